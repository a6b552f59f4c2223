section
theorem pk_us {f : Nat → Int32} {k : Nat} {x : Int32} : upd f k x k = x := if_pos rfl
theorem pk_un {f : Nat → Int32} {k j : Nat} {x : Int32} (h : j ≠ k) : upd f k x j = f j := if_neg h
theorem pk_sub {a b : Nat} (h : b ≤ a) : nI a - nI b = nI (a - b) := by
  obtain ⟨c, rfl⟩ : ∃ c, a = c + b := ⟨a - b, by omega⟩
  rw [← nI_add, Int32.add_sub_cancel, Nat.add_sub_cancel]
theorem pk_mul (a b : Nat) : nI a * nI b = nI (a * b) := (Int32.ofNat_mul a b).symm
theorem pk_ix (x : Int32) {n : Nat} (hn : n < 2 ^ 31) : x < 0 ∨ nI n ≤ x ∨ ∃ j : Nat, j < n ∧ x = nI j := by
  by_cases h : x < 0
  · exact Or.inl h
  · obtain ⟨j, hj, rfl⟩ := nI_of h
    by_cases h2 : j < n
    · exact Or.inr (Or.inr ⟨j, h2, rfl⟩)
    · exact Or.inr (Or.inl (nI_le (by omega) hj))
theorem pk_le {x y : Int32} {A B : Prop} (a b : Nat) (f : a ≤ b → A) (g : b < a → B) (hx : x = nI a := by rfl) (hy : y = nI b := by rfl) (ha : a < 2 ^ 31 := by omega) (hb : b < 2 ^ 31 := by omega) : (x ≤ y → A) ∧ (¬ x ≤ y → B) := by
  subst hx hy
  rw [nI_leI ha hb]
  exact ⟨f, fun z => g (by omega)⟩
theorem pk_lt {x y : Int32} {A B : Prop} (a b : Nat) (f : a < b → A) (g : b ≤ a → B) (hx : x = nI a := by rfl) (hy : y = nI b := by rfl) (ha : a < 2 ^ 31 := by omega) (hb : b < 2 ^ 31 := by omega) : (x < y → A) ∧ (¬ x < y → B) := by
  subst hx hy
  rw [nI_ltI ha hb]
  exact ⟨f, fun z => g (by omega)⟩
theorem pk_eq {x y : Int32} {A B : Prop} (a b : Nat) (f : a = b → A) (g : a ≠ b → B) (hx : x = nI a := by rfl) (hy : y = nI b := by rfl) (ha : a < 2 ^ 31 := by omega) (hb : b < 2 ^ 31 := by omega) : (x = y → A) ∧ (¬ x = y → B) := by
  subst hx hy
  rw [nI_eq ha hb]
  exact ⟨f, g⟩
theorem pk_in {x : Int32} (n N : Nat) (h : n < N) (hx : x = nI n := by rfl) (hN : N < 2 ^ 31 := by omega) : vp_in x N := by
  subst hx
  exact vp_in_nI h hN
theorem pk_cl {x : Int32} (n : Nat) (hx : x = nI n := by rfl) (h : n < 2 ^ 31 := by omega) : x.toNatClampNeg = n := by
  subst hx
  exact nI_clamp h
theorem pk_tn {n : Nat} (h : n < 2 ^ 32) : (nI n).toBitVec.toNat = n := Nat.mod_eq_of_lt h
theorem pk_and (x : Int32) {m : Int32} (k : Nat) (hm : m.toBitVec.toNat = 2 ^ k - 1) : x &&& m = nI (x.toBitVec.toNat % 2 ^ k) := by
  apply Int32.toBitVec_inj.mp
  apply BitVec.eq_of_toNat_eq
  rw [Int32.toBitVec_and, BitVec.toNat_and, hm, Nat.and_two_pow_sub_one_eq_mod]
  show _ = (BitVec.ofNat 32 _).toNat
  rw [BitVec.toNat_ofNat]
  exact (Nat.mod_eq_of_lt (Nat.lt_of_le_of_lt (Nat.mod_le _ _) x.toBitVec.isLt)).symm
theorem pk_andN {n : Nat} (h : n < 2 ^ 32) {m : Int32} (k : Nat) (hm : m.toBitVec.toNat = 2 ^ k - 1) : nI n &&& m = nI (n % 2 ^ k) := by
  rw [pk_and _ k hm, pk_tn h]
theorem pk_andE (x : Int32) {m : Int32} (k : Nat) (hm : m.toBitVec.toNat = 2 ^ k - 1) : ∃ j : Nat, j < 2 ^ k ∧ x &&& m = nI j := ⟨_, Nat.mod_lt _ (Nat.two_pow_pos k), pk_and x k hm⟩
theorem pk_andIn (x : Int32) {m : Int32} (k : Nat) (hm : m.toBitVec.toNat = 2 ^ k - 1) (hk : k ≤ 30) : vp_in (x &&& m) (2 ^ k) := by
  obtain ⟨j, hj, e⟩ := pk_andE x k hm
  rw [e]
  exact vp_in_nI hj (Nat.lt_of_le_of_lt (Nat.pow_le_pow_right (by decide) hk) (by decide))
-- arrays
def ra_sl (n r : Nat) (g a : Nat → Int32) : Nat → Int32 := fun j => if n * r ≤ j ∧ j < n * r + n then g (j - n * r) else a j
def ra_vw (n r : Nat) (a : Nat → Int32) : Nat → Int32 := fun q => if q < n then a (n * r + q) else 0
def ra_tr (n : Nat) (g : Nat → Int32) : Nat → Int32 := fun q => if q < n then g q else 0
theorem ra_uu {a : Nat → Int32} {k : Nat} {x y : Int32} : upd (upd a k x) k y = upd a k y := by
  funext j
  by_cases h : j = k
  · subst h; rw [pk_us, pk_us]
  · rw [pk_un h, pk_un h, pk_un h]
theorem ra_ue {a : Nat → Int32} {k : Nat} {x : Int32} (e : a k = x) : upd a k x = a := by
  funext j
  by_cases h : j = k
  · subst h; rw [pk_us, e]
  · rw [pk_un h]
theorem ra_slr {n r q : Nat} {g a : Nat → Int32} (h : q < n) : ra_sl n r g a (n * r + q) = g q := by
  unfold ra_sl
  rw [if_pos ⟨by omega, by omega⟩, Nat.add_sub_cancel_left]
theorem ra_sln {n r j : Nat} {g a : Nat → Int32} (h : ¬ (n * r ≤ j ∧ j < n * r + n)) : ra_sl n r g a j = a j := if_neg h
theorem ra_slu {n r q : Nat} {g a : Nat → Int32} {x : Int32} (h : q < n) : upd (ra_sl n r g a) (n * r + q) x = ra_sl n r (upd g q x) a := by
  funext j
  by_cases e : j = n * r + q
  · subst e; rw [pk_us, ra_slr h, pk_us]
  · rw [pk_un e]
    by_cases c : n * r ≤ j ∧ j < n * r + n
    · obtain ⟨i, rfl⟩ : ∃ i, j = n * r + i := ⟨j - n * r, by omega⟩
      rw [ra_slr (by omega), ra_slr (by omega), pk_un (by omega)]
    · rw [ra_sln c, ra_sln c]
theorem ra_sle {n r : Nat} {g a : Nat → Int32} (h : ∀ q, q < n → a (n * r + q) = g q) : ra_sl n r g a = a := by
  funext j
  by_cases c : n * r ≤ j ∧ j < n * r + n
  · obtain ⟨i, rfl⟩ : ∃ i, j = n * r + i := ⟨j - n * r, by omega⟩
    rw [ra_slr (by omega), h i (by omega)]
  · rw [ra_sln c]
theorem ra_slv {n r : Nat} {a : Nat → Int32} : ra_sl n r (ra_vw n r a) a = a := ra_sle fun q h => (if_pos h).symm
theorem ra_vwr {n r q : Nat} {a : Nat → Int32} (h : q < n) : ra_vw n r a q = a (n * r + q) := if_pos h
theorem ra_trr {n q : Nat} {a : Nat → Int32} (h : q < n) : ra_tr n a q = a q := if_pos h
theorem ra_vsl {n r : Nat} {g a : Nat → Int32} : ra_vw n r (ra_sl n r g a) = ra_tr n g := by
  funext q
  by_cases c : q < n
  · rw [ra_vwr c, ra_slr c, ra_trr c]
  · unfold ra_vw ra_tr; rw [if_neg c, if_neg c]
theorem ra_far {n r r' q : Nat} (h : r' ≠ r) (hq : q < n) : ¬ (n * r ≤ n * r' + q ∧ n * r' + q < n * r + n) := by
  intro c
  rcases Nat.lt_or_gt_of_ne h with l | l
  · have := Nat.mul_le_mul_left n (show r' + 1 ≤ r from l)
    rw [Nat.mul_succ] at this
    omega
  · have := Nat.mul_le_mul_left n (show r + 1 ≤ r' from l)
    rw [Nat.mul_succ] at this
    omega
theorem ra_vsn {n r r' : Nat} {g a : Nat → Int32} (h : r' ≠ r) : ra_vw n r' (ra_sl n r g a) = ra_vw n r' a := by
  funext q
  by_cases c : q < n
  · rw [ra_vwr c, ra_vwr c, ra_sln (ra_far h c)]
  · unfold ra_vw; rw [if_neg c, if_neg c]
theorem ra_vun {n r r' q : Nat} {a : Nat → Int32} {x : Int32} (h : r' ≠ r) (hq : q < n) : ra_vw n r' (upd a (n * r + q) x) = ra_vw n r' a := by
  funext i
  by_cases c : i < n
  · rw [ra_vwr c, ra_vwr c, pk_un]
    intro e
    exact ra_far h c ⟨by omega, by omega⟩
  · unfold ra_vw; rw [if_neg c, if_neg c]
theorem ra_vus {n r q : Nat} {a : Nat → Int32} {x : Int32} (hq : q < n) : ra_vw n r (upd a (n * r + q) x) = upd (ra_vw n r a) q x := by
  funext i
  by_cases e : i = q
  · subst e; rw [ra_vwr hq, pk_us, pk_us]
  · rw [pk_un e]
    by_cases c : i < n
    · rw [ra_vwr c, ra_vwr c, pk_un (by omega)]
    · unfold ra_vw; rw [if_neg c, if_neg c]
theorem ra_slc {n r : Nat} {g g' a : Nat → Int32} (h : ∀ q, q < n → g q = g' q) : ra_sl n r g a = ra_sl n r g' a := by
  funext j
  by_cases c : n * r ≤ j ∧ j < n * r + n
  · obtain ⟨i, rfl⟩ : ∃ i, j = n * r + i := ⟨j - n * r, by omega⟩
    rw [ra_slr (by omega), ra_slr (by omega), h i (by omega)]
  · rw [ra_sln c, ra_sln c]
theorem ra_z4 {r : Nat} {a : Nat → Int32} : upd (upd (upd (upd a (4 * r + 0) 0) (4 * r + 1) 0) (4 * r + 2) 0) (4 * r + 3) 0 = ra_sl 4 r (fun _ => 0) a := by
  have e : a = ra_sl 4 r (ra_vw 4 r a) a := ra_slv.symm
  rw [e, ra_slu (by omega), ra_slu (by omega), ra_slu (by omega), ra_slu (by omega), ← e]
  refine ra_slc fun q hq => ?_
  unfold upd
  rcases (show q = 0 ∨ q = 1 ∨ q = 2 ∨ q = 3 by omega) with h | h | h | h <;> subst h <;> rfl
-- indices
def rf_3 (x : Int32) : Nat := x.toBitVec.toNat % 4
theorem rf_3l (x : Int32) : rf_3 x < 4 := Nat.mod_lt _ (by decide)
theorem rf_3e (x : Int32) : x &&& 3 = nI (rf_3 x) := pk_and x 2 (by decide)
theorem rf_4 (r : Nat) : nI r * 4 = nI (4 * r) := by
  rw [show (4 : Int32) = nI 4 from rfl, pk_mul, Nat.mul_comm]
theorem rf_24 (r : Nat) : nI r * 24 = nI (24 * r) := by
  rw [show (24 : Int32) = nI 24 from rfl, pk_mul, Nat.mul_comm]
theorem rf_40 (r : Nat) : nI r * 40 = nI (40 * r) := by
  rw [show (40 : Int32) = nI 40 from rfl, pk_mul, Nat.mul_comm]
theorem rf_4i (r : Nat) (x : Int32) : nI r * 4 + (x &&& 3) = nI (4 * r + rf_3 x) := by rw [rf_4, rf_3e, nI_add]
theorem rf_24i (r S : Nat) : nI r * 24 + nI S = nI (24 * r + S) := by rw [rf_24, nI_add]
theorem rf_40i (r m : Nat) : nI r * 40 + nI m = nI (40 * r + m) := by rw [rf_40, nI_add]
theorem rf_in3 {r : Nat} (h : r < 3) : vp_in (nI r) 3 := vp_in_nI h (by decide)
theorem rf_c3 {r : Nat} (h : r < 3) : (nI r).toNatClampNeg = r := nI_clamp (Nat.lt_of_lt_of_le h (by decide))
theorem rf_c16 {r : Nat} (h : r < 16) : (nI r).toNatClampNeg = r := nI_clamp (Nat.lt_of_lt_of_le h (by decide))
end
section
-- the machine of one run: registers g, place p, instructions in a row a, waits over m
def rm_x (fi : Nat → Int32) (P : Nat) : Nat := rf_3 (fi P)
def rm_g (op fi se : Nat → Int32) (g : Nat → Int32) (P : Nat) : Nat → Int32 :=
  if op P = 0 then upd g (rf_3 (fi P)) (se P)
  else if op P = 1 then upd g (rf_3 (fi P)) (g (rf_3 (fi P)) + g (rf_3 (se P)))
  else if op P = 2 then upd g (rf_3 (fi P)) (g (rf_3 (fi P)) - g (rf_3 (se P)))
  else g
def rm_p (op fi se : Nat → Int32) (g : Nat → Int32) (P : Nat) : Int32 :=
  if op P = 3 then se P
  else if op P = 4 then (if g (rf_3 (fi P)) ≤ 0 then nI (P + 1) else se P)
  else nI (P + 1)
def rm_wg (op fi : Nat → Int32) (g : Nat → Int32) (P : Nat) (v : Int32) : Nat → Int32 :=
  if op P = 6 then g else upd g (rf_3 (fi P)) v
def rm_pl (o : Int32) : Prop := o = 0 ∨ o = 1 ∨ o = 2 ∨ o = 3 ∨ o = 4
def rm_wt (o : Int32) : Prop := o = 5 ∨ o = 6 ∨ o = 7
/-- the script is well formed -/
def rm_ok (L : Nat) (op : Nat → Int32) : Prop := L ≤ 16 ∧ ∀ P, P < L → rm_pl (op P) ∨ rm_wt (op P) ∨ op P = 8
/-- reached from the start, in j steps, by the history e -/
def rm_R (L : Nat) (op fi se : Nat → Int32) (x : Int32) (e : Nat → Int32) : Nat → (Nat → Int32) → Int32 → Nat → Nat → Prop
  | 0 => fun g p a m => g = upd (fun _ => 0) 0 x ∧ p = 0 ∧ a = 0 ∧ m = 0
  | j + 1 => fun g' p' a' m' => ∃ (g : Nat → Int32) (P a m : Nat), rm_R L op fi se x e j g (nI P) a m ∧ P < L ∧ a < 60 ∧
      ((rm_pl (op P) ∧ g' = rm_g op fi se g P ∧ p' = rm_p op fi se g P ∧ a' = a + 1 ∧ m' = m) ∨
       (rm_wt (op P) ∧ m < 40 ∧ g' = rm_wg op fi g P (e m) ∧ p' = nI (P + 1) ∧ a' = 0 ∧ m' = m + 1))
theorem rm_Rp {L : Nat} {op fi se e g : Nat → Int32} {x : Int32} {j P a m : Nat} (h : rm_R L op fi se x e j g (nI P) a m) (hP : P < L) (ha : a < 60) (ho : rm_pl (op P)) :
    rm_R L op fi se x e (j + 1) (rm_g op fi se g P) (rm_p op fi se g P) (a + 1) m :=
  Exists.intro g (Exists.intro P (Exists.intro a (Exists.intro m (And.intro h (And.intro hP (And.intro ha (Or.inl ⟨ho, rfl, rfl, rfl, rfl⟩)))))))
theorem rm_Rw {L : Nat} {op fi se e g : Nat → Int32} {x v : Int32} {j P a m : Nat} (h : rm_R L op fi se x e j g (nI P) a m) (hP : P < L) (ha : a < 60) (ho : rm_wt (op P)) (hm : m < 40) (hv : e m = v) :
    rm_R L op fi se x e (j + 1) (rm_wg op fi g P v) (nI (P + 1)) 0 (m + 1) :=
  Exists.intro g (Exists.intro P (Exists.intro a (Exists.intro m (And.intro h (And.intro hP (And.intro ha (Or.inr ⟨ho, hm, by rw [hv], rfl, rfl, rfl⟩)))))))
theorem rm_bnd {L : Nat} {op fi se e : Nat → Int32} {x : Int32} : ∀ {j : Nat} {g : Nat → Int32} {p : Int32} {a m : Nat},
    rm_R L op fi se x e j g p a m → j ≤ 60 * m + a ∧ a ≤ 60 ∧ m ≤ 40 := by
  intro j
  induction j with
  | zero =>
    intro g p a m h
    obtain ⟨-, -, rfl, rfl⟩ := h
    omega
  | succ j ih =>
    intro g p a m h
    obtain ⟨g0, P, a0, m0, h0, hP, ha, h1 | h1⟩ := h
    · obtain ⟨-, -, -, rfl, rfl⟩ := h1
      have := ih h0
      omega
    · obtain ⟨-, hm, -, -, rfl, rfl⟩ := h1
      have := ih h0
      omega
theorem rm_cong {L : Nat} {op fi se e e' : Nat → Int32} {x : Int32} : ∀ {j : Nat} {g : Nat → Int32} {p : Int32} {a m : Nat},
    (∀ q, q < m → e' q = e q) → rm_R L op fi se x e j g p a m → rm_R L op fi se x e' j g p a m := by
  intro j
  induction j with
  | zero => intro g p a m _ h; exact h
  | succ j ih =>
    intro g p a m he h
    obtain ⟨g0, P, a0, m0, h0, hP, ha, h1 | h1⟩ := h
    · obtain ⟨c, rfl, rfl, rfl, rfl⟩ := h1
      exact rm_Rp (ih he h0) hP ha c
    · obtain ⟨c, hm, rfl, rfl, rfl, rfl⟩ := h1
      exact rm_Rw (ih (fun q hq => he q (by omega)) h0) hP ha c hm (he m0 (by omega))
/-- X's state at a place: 5 works, 4 ended -/
def rm_s (L : Nat) (p : Int32) (a : Nat) : Int32 := if p < 0 ∨ nI L ≤ p ∨ 60 ≤ a then 4 else 5
def rm_t (L : Nat) (p s : Int32) : Int32 := if p < 0 ∨ nI L ≤ p then 4 else s
theorem rm_ts {L : Nat} {p : Int32} {a : Nat} (h : a < 60) : rm_t L p 5 = rm_s L p a := by
  unfold rm_t rm_s
  by_cases c : p < 0 ∨ nI L ≤ p
  · rw [if_pos c, if_pos (c.elim Or.inl fun z => Or.inr (Or.inl z))]
  · rw [if_neg c, if_neg (fun z => z.elim (fun z => c (Or.inl z)) fun z => z.elim (fun z => c (Or.inr z)) fun z => by omega)]
theorem rm_s60 {L : Nat} {p : Int32} {a : Nat} (h : 60 ≤ a) : rm_s L p a = 4 := if_pos (Or.inr (Or.inr h))
theorem rm_sin {L P a : Nat} (hL : L ≤ 16) (h : P < L) (ha : a < 60) : rm_s L (nI P) a = 5 := by
  unfold rm_s
  rw [if_neg]
  intro z
  rcases z with z | z | z
  · exact nI_pos (by omega) z
  · exact nI_ge h (by omega) z
  · omega
theorem rm_tin {L P : Nat} {s : Int32} (hL : L ≤ 16) (h : P < L) : rm_t L (nI P) s = s := by
  unfold rm_t
  rw [if_neg]
  intro z
  rcases z with z | z
  · exact nI_pos (by omega) z
  · exact nI_ge h (by omega) z
def rm_no (ch t : Nat → Int32) (S : Nat) (c : Int32) : Prop := ∀ i, i < S → ¬ (t i = 0 ∧ ch i = c)
/-- a config where a run ended with q -/
def rm_E (L : Nat) (op fi : Nat → Int32) (g : Nat → Int32) (p : Int32) (a m : Nat) (q : Int32) : Prop :=
  ((p < 0 ∨ nI L ≤ p ∨ a = 60) ∧ q = 0) ∨ (∃ P, P < L ∧ p = nI P ∧ a < 60 ∧ ((rm_wt (op P) ∧ m = 40 ∧ q = 0) ∨ (op P = 8 ∧ q = g (rf_3 (fi P)))))
/-- a config where a run rests, in state s with result q -/
def rm_F (L : Nat) (op fi se ch t : Nat → Int32) (S : Nat) (g : Nat → Int32) (p : Int32) (a m : Nat) (s q : Int32) : Prop :=
  (s = 4 ∧ rm_E L op fi g p a m q) ∨
  (∃ P, P < L ∧ p = nI P ∧ a < 60 ∧ m < 40 ∧ q = 0 ∧ ((op P = 5 ∧ s = 1) ∨ (op P = 6 ∧ s = 2) ∨ (op P = 7 ∧ s = 3 ∧ rm_no ch t S (se P &&& 1))))
/-- the length of a sleep -/
def rm_b (b : Int32) : Int32 := if 1 ≤ b then (if b ≤ 100 then b else 100) else 1
theorem rm_bp {T : Nat} (hT : T < 1000000) (b : Int32) : ¬ nI T + rm_b b ≤ 0 := by
  obtain ⟨B, h1, h2, e⟩ : ∃ B : Nat, 1 ≤ B ∧ B ≤ 100 ∧ rm_b b = nI B := by
    unfold rm_b
    by_cases c : 1 ≤ b
    · rw [if_pos c]
      by_cases d : b ≤ 100
      · rw [if_pos d]
        obtain ⟨j, hj, rfl⟩ := nI_of (x := b) (fun z => by
          rw [Int32.le_iff_toInt_le] at c
          rw [Int32.lt_iff_toInt_lt] at z
          have : (1 : Int32).toInt = 1 := by decide
          have : (0 : Int32).toInt = 0 := by decide
          omega)
        rw [show (100 : Int32) = nI 100 from rfl, nI_leI hj (by decide)] at d
        rw [show (1 : Int32) = nI 1 from rfl, nI_leI (by decide) hj] at c
        exact ⟨j, c, d, rfl⟩
      · rw [if_neg d]; exact ⟨100, by decide, by decide, rfl⟩
    · rw [if_neg c]; exact ⟨1, by decide, by decide, rfl⟩
  rw [e, nI_add]
  exact nI_nle (by omega) (by omega)
/-- the first signal, or none -/
theorem rm_sig (ch t : Nat → Int32) (c : Int32) : ∀ S : Nat, rm_no ch t S c ∨ ∃ i, i < S ∧ t i = 0 ∧ ch i = c ∧ rm_no ch t i c := by
  intro S
  induction S with
  | zero => exact Or.inl fun i h => absurd h (by omega)
  | succ S ih =>
    rcases ih with h | ⟨i, hi, h⟩
    · by_cases z : t S = 0 ∧ ch S = c
      · exact Or.inr ⟨S, by omega, z.1, z.2, h⟩
      · refine Or.inl fun i hi => ?_
        rcases Nat.lt_or_ge i S with l | l
        · exact h i l
        · obtain rfl : i = S := by omega
          exact z
    · exact Or.inr ⟨i, by omega, h⟩
theorem rm_Ft {L S : Nat} {op fi se ch t t' g : Nat → Int32} {p s q : Int32} {a m : Nat} (ht : ∀ i, i < S → t' i = t i) (h : rm_F L op fi se ch t S g p a m s q) :
    rm_F L op fi se ch t' S g p a m s q := by
  rcases h with h | ⟨P, hP, hp, ha, hm, hq, h | h | ⟨h1, h2, h3⟩⟩
  · exact Or.inl h
  · exact Or.inr ⟨P, hP, hp, ha, hm, hq, Or.inl h⟩
  · exact Or.inr ⟨P, hP, hp, ha, hm, hq, Or.inr (Or.inl h)⟩
  · exact Or.inr ⟨P, hP, hp, ha, hm, hq, Or.inr (Or.inr ⟨h1, h2, fun i hi => by rw [ht i hi]; exact h3 i hi⟩)⟩
theorem rm_Fx {L S S' : Nat} {op fi se ch ch' t t' g : Nat → Int32} {p s q : Int32} {a m : Nat} (hs : s ≠ 3) (h : rm_F L op fi se ch t S g p a m s q) :
    rm_F L op fi se ch' t' S' g p a m s q := by
  rcases h with h | ⟨P, hP, hp, ha, hm, hq, h | h | ⟨h1, h2, h3⟩⟩
  · exact Or.inl h
  · exact Or.inr ⟨P, hP, hp, ha, hm, hq, Or.inl h⟩
  · exact Or.inr ⟨P, hP, hp, ha, hm, hq, Or.inr (Or.inl h)⟩
  · exact absurd h2 hs
theorem rm_F1 {L S : Nat} {op fi se ch t g : Nat → Int32} {p s q : Int32} {a m : Nat} {c : Int32} (h : rm_F L op fi se ch t S g p a m s q) (hs : s = c) (h4 : c ≠ 4) :
    ∃ P, P < L ∧ p = nI P ∧ a < 60 ∧ m < 40 ∧ q = 0 ∧ op P = c + 4 := by
  subst hs
  rcases h with h | ⟨P, hP, hp, ha, hm, hq, h | h | h⟩
  · exact absurd h.1 h4
  · exact ⟨P, hP, hp, ha, hm, hq, by rw [h.1, h.2]; rfl⟩
  · exact ⟨P, hP, hp, ha, hm, hq, by rw [h.1, h.2]; rfl⟩
  · exact ⟨P, hP, hp, ha, hm, hq, by rw [h.1, h.2.1]; rfl⟩
theorem rm_Fs {L S : Nat} {op fi se ch t g : Nat → Int32} {p s q : Int32} {a m : Nat} (h : rm_F L op fi se ch t S g p a m s q) : s = 1 ∨ s = 2 ∨ s = 3 ∨ s = 4 := by
  rcases h with h | ⟨P, hP, hp, ha, hm, hq, h | h | h⟩
  · exact Or.inr (Or.inr (Or.inr h.1))
  · exact Or.inl h.2
  · exact Or.inr (Or.inl h.2)
  · exact Or.inr (Or.inr (Or.inl h.2.1))
end
section
section
variable {fL lk fN : Int32} {op fi se st ar es ev sg ch va tk wk kn rg pl sa rs mt ia : Nat → Int32} {r L : Nat} {post : SX → Prop}
theorem xf_finish {q s q0 : Int32} (hr : r < 3) (hp : post (fL, lk, fN, op, fi, se, st, ar, es, ev, sg, ch, va, tk, wk, kn, rg, pl, upd sa r 4, upd rs r q, mt, ia)) :
    wpX_finish post (fL, lk, fN, op, fi, se, st, ar, es, ev, sg, ch, va, tk, wk, kn, rg, pl, upd sa r s, upd rs r q0, mt, ia) (nI r) q := by
  refine And.intro (rf_in3 hr) (nm_r (e' := upd sa r 4) (by rw [rf_c3 hr, ra_uu]) (And.intro (rf_in3 hr) (nm_r (e' := upd rs r q) (by rw [rf_c3 hr, ra_uu]) ?_)))
  exact hp
theorem xf_goTo {p nx s : Int32} (hr : r < 3) (hp : post (nI L, lk, fN, op, fi, se, st, ar, es, ev, sg, ch, va, tk, wk, kn, rg, upd pl r nx, upd sa r (rm_t L nx s), upd rs r 0, mt, ia)) :
    wpX_goTo post (nI L, lk, fN, op, fi, se, st, ar, es, ev, sg, ch, va, tk, wk, kn, rg, upd pl r p, upd sa r s, upd rs r 0, mt, ia) (nI r) nx := by
  refine And.intro (rf_in3 hr) (nm_r (e' := upd pl r nx) (by rw [rf_c3 hr, ra_uu]) ?_)
  by_cases h0 : nx < 0
  · refine br_t h0 ?_
    rw [show rm_t L nx s = 4 from if_pos (Or.inl h0)] at hp
    unfold wX_goTo_19
    refine xf_finish hr ?_
    exact hp
  · refine br_f h0 ?_
    by_cases h1 : nx < nI L
    · rw [show rm_t L nx s = s from if_neg (fun z => z.elim h0 fun z => Int32.not_lt.mpr z h1)] at hp
      exact br_t h1 hp
    · refine br_f h1 ?_
      rw [show rm_t L nx s = 4 from if_pos (Or.inr (Int32.not_lt.mp h1))] at hp
      unfold wX_goTo_19
      refine xf_finish hr ?_
      exact hp
theorem xf_167 {p nx : Int32} {a : Nat} (hr : r < 3) (ha : a < 60)
    (hp : post (nI L, lk, fN, op, fi, se, st, ar, es, ev, sg, ch, va, tk, wk, kn, rg, upd pl r nx, upd sa r (rm_s L nx (a + 1)), upd rs r 0, mt, upd ia r (nI (a + 1)))) :
    wX_plain_167 post (nI r) nx (nI L) lk fN op fi se st ar es ev sg ch va tk wk kn rg (upd pl r p) (upd sa r 5) (upd rs r 0) mt (upd ia r (nI a)) := by
  unfold wX_plain_167
  refine xf_goTo hr ?_
  have e : upd ia r (nI (a + 1)) (nI r).toNatClampNeg = nI (a + 1) := by rw [rf_c3 hr, pk_us]
  refine And.intro (rf_in3 hr) (And.intro (rf_in3 hr) (nm_r (e' := upd ia r (nI (a + 1))) (by rw [rf_c3 hr, pk_us, nI_1, ra_uu]) (And.intro (rf_in3 hr) ?_)))
  by_cases h : a + 1 < 60
  · rw [← rm_ts h] at hp
    exact br_t (by rw [e]; exact nI_lt (b := 60) h (by decide)) hp
  · rw [rm_s60 (by omega)] at hp
    refine br_f (by rw [e]; exact nI_nlt (b := 60) (by omega) (by omega)) ?_
    refine xf_finish hr ?_
    exact hp
theorem xf_plain {P a : Nat} {g : Nat → Int32} (hr : r < 3) (hL : L ≤ 16) (hP : P < L) (ha : a < 60) (ho : rm_pl (op P))
    (hp : post (nI L, lk, fN, op, fi, se, st, ar, es, ev, sg, ch, va, tk, wk, kn, ra_sl 4 r (rm_g op fi se g P) rg, upd pl r (rm_p op fi se g P), upd sa r (rm_s L (rm_p op fi se g P) (a + 1)), upd rs r 0, mt, upd ia r (nI (a + 1)))) :
    wpX_plain post (nI L, lk, fN, op, fi, se, st, ar, es, ev, sg, ch, va, tk, wk, kn, ra_sl 4 r g rg, upd pl r (nI P), upd sa r 5, upd rs r 0, mt, upd ia r (nI a)) (nI r) (op P) := by
  have h16 : vp_in (nI P) 16 := vp_in_nI (by omega) (by decide)
  have hc : (nI P).toNatClampNeg = P := nI_clamp (by omega)
  have hx := rf_3l (fi P)
  have hy := rf_3l (se P)
  have i4 : vp_in (nI (4 * r + rf_3 (fi P))) 12 := vp_in_nI (by omega) (by decide)
  have i5 : vp_in (nI (4 * r + rf_3 (se P))) 12 := vp_in_nI (by omega) (by decide)
  have c4 : (nI (4 * r + rf_3 (fi P))).toNatClampNeg = 4 * r + rf_3 (fi P) := nI_clamp (by omega)
  have c5 : (nI (4 * r + rf_3 (se P))).toNatClampNeg = 4 * r + rf_3 (se P) := nI_clamp (by omega)
  refine And.intro (rf_in3 hr) (nm_r (e' := nI P) (by rw [rf_c3 hr, pk_us]) (And.intro h16 (nm_r (e' := nI (4 * r + rf_3 (fi P))) (by rw [hc, rf_4i]) (And.intro h16 (nm_r (e' := nI (4 * r + rf_3 (se P))) (by rw [hc, rf_4i]) (nm_r (e' := nI (P + 1)) (nI_1 P) ?_))))))
  rcases ho with o | o | o | o | o
  · rw [show rm_g op fi se g P = upd g (rf_3 (fi P)) (se P) by unfold rm_g; rw [o]; rfl, show rm_p op fi se g P = nI (P + 1) by unfold rm_p; rw [o]; rfl] at hp
    rw [o]
    refine br_f (by decide) (br_f (by decide) (br_t rfl (And.intro h16 (And.intro i4 (nm_r (e' := ra_sl 4 r (upd g (rf_3 (fi P)) (se P)) rg) (by rw [c4, hc, ra_slu hx]) ?_)))))
    exact xf_167 hr ha hp
  · rw [show rm_g op fi se g P = upd g (rf_3 (fi P)) (g (rf_3 (fi P)) + g (rf_3 (se P))) by unfold rm_g; rw [o]; rfl, show rm_p op fi se g P = nI (P + 1) by unfold rm_p; rw [o]; rfl] at hp
    rw [o]
    refine br_f (by decide) (br_f (by decide) (br_f (by decide) (br_t rfl (And.intro i4 (And.intro i5 (And.intro i4 (nm_r (e' := ra_sl 4 r (upd g (rf_3 (fi P)) (g (rf_3 (fi P)) + g (rf_3 (se P)))) rg) (by rw [c4, c5, ra_slr hx, ra_slr hy, ra_slu hx]) ?_)))))))
    exact xf_167 hr ha hp
  · rw [show rm_g op fi se g P = upd g (rf_3 (fi P)) (g (rf_3 (fi P)) - g (rf_3 (se P))) by unfold rm_g; rw [o]; rfl, show rm_p op fi se g P = nI (P + 1) by unfold rm_p; rw [o]; rfl] at hp
    rw [o]
    refine br_f (by decide) (br_f (by decide) (br_f (by decide) (br_f (by decide) (br_t rfl (And.intro i4 (And.intro i5 (And.intro i4 (nm_r (e' := ra_sl 4 r (upd g (rf_3 (fi P)) (g (rf_3 (fi P)) - g (rf_3 (se P)))) rg) (by rw [c4, c5, ra_slr hx, ra_slr hy, ra_slu hx]) ?_))))))))
    exact xf_167 hr ha hp
  · rw [show rm_g op fi se g P = g by unfold rm_g; rw [o]; rfl, show rm_p op fi se g P = se P by unfold rm_p; rw [o]; rfl] at hp
    rw [o]
    refine br_f (by decide) (br_f (by decide) (br_f (by decide) (br_f (by decide) (br_f (by decide) (br_t rfl (And.intro h16 (nm_r (e' := se P) (by rw [hc]) ?_)))))))
    exact xf_167 hr ha hp
  · rw [show rm_g op fi se g P = g by unfold rm_g; rw [o]; rfl] at hp
    have e4 : ra_sl 4 r g rg (nI (4 * r + rf_3 (fi P))).toNatClampNeg = g (rf_3 (fi P)) := by rw [c4, ra_slr hx]
    by_cases z : g (rf_3 (fi P)) ≤ 0
    · rw [show rm_p op fi se g P = nI (P + 1) by unfold rm_p; rw [o, if_neg (by decide), if_pos rfl, if_pos z]] at hp
      rw [o]
      refine br_f (by decide) (br_t (by decide) (And.intro i4 (br_t (by rw [e4]; exact z) ?_)))
      exact xf_167 hr ha hp
    · rw [show rm_p op fi se g P = se P by unfold rm_p; rw [o, if_neg (by decide), if_pos rfl, if_neg z]] at hp
      rw [o]
      refine br_f (by decide) (br_t (by decide) (And.intro i4 (br_f (by rw [e4]; exact z) (And.intro h16 (nm_r (e' := se P) (by rw [hc]) ?_)))))
      exact xf_167 hr ha hp
theorem xf_addEvent {N : Nat} {e : Nat → Int32} {v : Int32} (hr : r < 3) (hN : N < 40)
    (hp : post (fL, lk, fN, op, fi, se, st, ar, upd es r (nI (N + 1)), ra_sl 40 r (upd e N v) ev, sg, ch, va, tk, wk, kn, rg, pl, sa, rs, mt, ia)) :
    wpX_addEvent post (fL, lk, fN, op, fi, se, st, ar, upd es r (nI N), ra_sl 40 r e ev, sg, ch, va, tk, wk, kn, rg, pl, sa, rs, mt, ia) (nI r) v := by
  have h3 := rf_in3 hr
  have e1 : upd es r (nI N) (nI r).toNatClampNeg = nI N := by rw [rf_c3 hr, pk_us]
  refine And.intro h3 (br_t (by rw [e1]; exact nI_lt (b := 40) hN (by decide)) (And.intro h3 (And.intro (by rw [e1, rf_40i]; exact vp_in_nI (by omega) (by decide)) (nm_r (e' := ra_sl 40 r (upd e N v) ev) (by rw [e1, rf_40i, nI_clamp (by omega), ra_slu hN]) (And.intro h3 (And.intro h3 (nm_r (e' := upd es r (nI (N + 1))) (by rw [e1, nI_1, rf_c3 hr, ra_uu]) ?_)))))))
  exact hp
theorem xf_take0 {S : Nat} {t : Nat → Int32} {c : Int32} (hr : r < 3) (hS : S ≤ 24) (hs : sg r = nI S) (hn : rm_no (ra_vw 24 r ch) t S c)
    (hp : post (fL, lk, fN, op, fi, se, st, ar, es, ev, sg, ch, va, ra_sl 24 r t tk, wk, kn, rg, pl, sa, rs, mt, ia)) : ∀ d i n, i + d = S → d < n → wX_takeSignal_5 post (nI r) c fL lk fN op fi se st ar es ev sg ch va (ra_sl 24 r t tk) wk kn rg pl sa rs mt ia n (nI (24 * r + i)) := by
  have h3 := rf_in3 hr
  have e1 : nI r * 24 + sg (nI r).toNatClampNeg = nI (24 * r + S) := by rw [rf_c3 hr, hs, rf_24i]
  intro d
  induction d with
  | zero =>
    intro i n hi hn
    obtain ⟨n, rfl⟩ : ∃ k, n = k + 1 := ⟨n - 1, by omega⟩
    exact And.intro h3 (br_t (by rw [e1]; exact nI_le (by omega) (by omega)) hp)
  | succ d ih =>
    intro i n hi hd
    obtain ⟨n, rfl⟩ : ∃ k, n = k + 1 := ⟨n - 1, by omega⟩
    have h72 : vp_in (nI (24 * r + i)) 72 := vp_in_nI (by omega) (by decide)
    have hc : (nI (24 * r + i)).toNatClampNeg = 24 * r + i := nI_clamp (by omega)
    have e2 : ra_sl 24 r t tk (nI (24 * r + i)).toNatClampNeg = t i := by rw [hc, ra_slr (by omega)]
    have e3 : ch (nI (24 * r + i)).toNatClampNeg = ra_vw 24 r ch i := by rw [hc, ra_vwr (by omega)]
    refine And.intro h3 (br_f (by rw [e1]; exact nI_ge (by omega) (by omega)) (And.intro h72 ?_))
    by_cases z : t i = 0
    · refine br_t (by rw [e2]; exact z) (And.intro h72 (br_f (by rw [e3]; exact fun y => hn i (by omega) ⟨z, y⟩) (nm_r (e' := nI (24 * r + (i + 1))) (nI_1 _) ?_)))
      exact ih (i + 1) n (by omega) (by omega)
    · refine br_f (by rw [e2]; exact z) (nm_r (e' := nI (24 * r + (i + 1))) (nI_1 _) ?_)
      exact ih (i + 1) n (by omega) (by omega)
theorem xf_take1 {S i0 N : Nat} {t e : Nat → Int32} {c : Int32} (hr : r < 3) (hS : S ≤ 24) (hs : sg r = nI S) (hi0 : i0 < S) (ht : t i0 = 0) (hc0 : ra_vw 24 r ch i0 = c)
    (hn : rm_no (ra_vw 24 r ch) t i0 c) (hN : N < 40)
    (hp : post (fL, lk, fN, op, fi, se, st, ar, upd es r (nI (N + 1)), ra_sl 40 r (upd e N (ra_vw 24 r va i0)) ev, sg, ch, va, ra_sl 24 r (upd t i0 1) tk, wk, kn, rg, pl, sa, rs, mt, ia)) :
    ∀ d i n, i + d = i0 → d < n → wX_takeSignal_5 post (nI r) c fL lk fN op fi se st ar (upd es r (nI N)) (ra_sl 40 r e ev) sg ch va (ra_sl 24 r t tk) wk kn rg pl sa rs mt ia n (nI (24 * r + i)) := by
  have h3 := rf_in3 hr
  have e1 : nI r * 24 + sg (nI r).toNatClampNeg = nI (24 * r + S) := by rw [rf_c3 hr, hs, rf_24i]
  intro d
  induction d with
  | zero =>
    intro i n hi hn
    obtain ⟨n, rfl⟩ : ∃ k, n = k + 1 := ⟨n - 1, by omega⟩
    obtain rfl : i = i0 := by omega
    have h72 : vp_in (nI (24 * r + i)) 72 := vp_in_nI (by omega) (by decide)
    have hc : (nI (24 * r + i)).toNatClampNeg = 24 * r + i := nI_clamp (by omega)
    have e2 : ra_sl 24 r t tk (nI (24 * r + i)).toNatClampNeg = t i := by rw [hc, ra_slr (by omega)]
    have e3 : ch (nI (24 * r + i)).toNatClampNeg = ra_vw 24 r ch i := by rw [hc, ra_vwr (by omega)]
    have e4 : va (nI (24 * r + i)).toNatClampNeg = ra_vw 24 r va i := by rw [hc, ra_vwr (by omega)]
    refine And.intro h3 (br_f (by rw [e1]; exact nI_ge (by omega) (by omega)) (And.intro h72 (br_t (by rw [e2]; exact ht) (And.intro h72 (br_t (by rw [e3]; exact hc0) (And.intro h72 (nm_r (e' := ra_sl 24 r (upd t i 1) tk) (by rw [hc]; exact ra_slu (by omega)) (And.intro h72 ?_))))))))
    rw [e4]
    refine xf_addEvent hr hN ?_
    exact hp
  | succ d ih =>
    intro i n hi hd
    obtain ⟨n, rfl⟩ : ∃ k, n = k + 1 := ⟨n - 1, by omega⟩
    have h72 : vp_in (nI (24 * r + i)) 72 := vp_in_nI (by omega) (by decide)
    have hc : (nI (24 * r + i)).toNatClampNeg = 24 * r + i := nI_clamp (by omega)
    have e2 : ra_sl 24 r t tk (nI (24 * r + i)).toNatClampNeg = t i := by rw [hc, ra_slr (by omega)]
    have e3 : ch (nI (24 * r + i)).toNatClampNeg = ra_vw 24 r ch i := by rw [hc, ra_vwr (by omega)]
    refine And.intro h3 (br_f (by rw [e1]; exact nI_ge (by omega) (by omega)) (And.intro h72 ?_))
    by_cases z : t i = 0
    · refine br_t (by rw [e2]; exact z) (And.intro h72 (br_f (by rw [e3]; exact fun y => hn i (by omega) ⟨z, y⟩) (nm_r (e' := nI (24 * r + (i + 1))) (nI_1 _) ?_)))
      exact ih (i + 1) n (by omega) (by omega)
    · refine br_f (by rw [e2]; exact z) (nm_r (e' := nI (24 * r + (i + 1))) (nI_1 _) ?_)
      exact ih (i + 1) n (by omega) (by omega)
theorem xf_takeS0 {S : Nat} {t : Nat → Int32} {c : Int32} (hr : r < 3) (hS : S ≤ 24) (hs : sg r = nI S) (hn : rm_no (ra_vw 24 r ch) t S c)
    (hp : post (fL, lk, fN, op, fi, se, st, ar, es, ev, sg, ch, va, ra_sl 24 r t tk, wk, kn, rg, pl, sa, rs, mt, ia)) : wpX_takeSignal post (fL, lk, fN, op, fi, se, st, ar, es, ev, sg, ch, va, ra_sl 24 r t tk, wk, kn, rg, pl, sa, rs, mt, ia) (nI r) c :=
  nm_r (e' := nI (24 * r + 0)) (rf_24 r) (Exists.intro (S + 1) (xf_take0 hr hS hs hn hp S 0 (S + 1) (by omega) (by omega)))
theorem xf_takeS1 {S i0 N : Nat} {t e : Nat → Int32} {c : Int32} (hr : r < 3) (hS : S ≤ 24) (hs : sg r = nI S) (hi0 : i0 < S) (ht : t i0 = 0) (hc0 : ra_vw 24 r ch i0 = c)
    (hn : rm_no (ra_vw 24 r ch) t i0 c) (hN : N < 40)
    (hp : post (fL, lk, fN, op, fi, se, st, ar, upd es r (nI (N + 1)), ra_sl 40 r (upd e N (ra_vw 24 r va i0)) ev, sg, ch, va, ra_sl 24 r (upd t i0 1) tk, wk, kn, rg, pl, sa, rs, mt, ia)) :
    wpX_takeSignal post (fL, lk, fN, op, fi, se, st, ar, upd es r (nI N), ra_sl 40 r e ev, sg, ch, va, ra_sl 24 r t tk, wk, kn, rg, pl, sa, rs, mt, ia) (nI r) c :=
  nm_r (e' := nI (24 * r + 0)) (rf_24 r) (Exists.intro (i0 + 1) (xf_take1 hr hS hs hi0 ht hc0 hn hN hp i0 0 (i0 + 1) (by omega) (by omega)))
end
end
section
section
variable {fL lk fN : Int32} {op fi se st ar es ev sg ch va tk wk kn rg pl sa rs mt ia : Nat → Int32} {r L : Nat} {post : SX → Prop}
theorem xf_46 {P a m : Nat} (hr : r < 3)
    (hp : post (nI L, lk, fN, op, fi, se, st, ar, es, ev, sg, ch, va, tk, wk, kn, rg, upd pl r (nI (P + 1)), upd sa r (rm_s L (nI (P + 1)) 0), upd rs r 0, upd mt r (nI (m + 1)), upd ia r (nI 0))) :
    wX_meet_46 post (nI r) (nI P) (nI L) lk fN op fi se st ar es ev sg ch va tk wk kn rg (upd pl r (nI P)) (upd sa r 5) (upd rs r 0) (upd mt r (nI m)) (upd ia r (nI a)) := by
  have h3 := rf_in3 hr
  unfold wX_meet_46
  refine And.intro h3 (And.intro h3 (nm_r (e' := upd mt r (nI (m + 1))) (by rw [rf_c3 hr, pk_us, nI_1, ra_uu]) (And.intro h3 (nm_r (e' := upd ia r (nI 0)) (by rw [rf_c3 hr, ra_uu]; rfl) ?_))))
  rw [nI_1 P]
  refine xf_goTo hr ?_
  rw [rm_ts (a := 0) (by omega)]
  exact hp
theorem xf_meet {P a m : Nat} {g e : Nat → Int32} (hr : r < 3) (hL : L ≤ 16) (hP : P < L) (hm : m < 40)
    (hp : post (nI L, lk, fN, op, fi, se, st, ar, es, ra_sl 40 r e ev, sg, ch, va, tk, wk, kn, ra_sl 4 r (rm_wg op fi g P (e m)) rg, upd pl r (nI (P + 1)), upd sa r (rm_s L (nI (P + 1)) 0), upd rs r 0, upd mt r (nI (m + 1)), upd ia r (nI 0))) :
    wpX_meet post (nI L, lk, fN, op, fi, se, st, ar, es, ra_sl 40 r e ev, sg, ch, va, tk, wk, kn, ra_sl 4 r g rg, upd pl r (nI P), upd sa r 5, upd rs r 0, upd mt r (nI m), upd ia r (nI a)) (nI r) (op P) := by
  have h3 := rf_in3 hr
  have h16 : vp_in (nI P) 16 := vp_in_nI (by omega) (by decide)
  have hc : (nI P).toNatClampNeg = P := nI_clamp (by omega)
  have hx := rf_3l (fi P)
  refine And.intro h3 (nm_r (e' := nI P) (by rw [rf_c3 hr, pk_us]) ?_)
  by_cases o : op P = 6
  · refine br_t o ?_
    rw [show rm_wg op fi g P (e m) = g from if_pos o] at hp
    exact xf_46 hr hp
  · rw [show rm_wg op fi g P (e m) = upd g (rf_3 (fi P)) (e m) from if_neg o] at hp
    have e1 : nI r * 40 + upd mt r (nI m) (nI r).toNatClampNeg = nI (40 * r + m) := by rw [rf_c3 hr, pk_us, rf_40i]
    have e2 : nI r * 4 + (fi (nI P).toNatClampNeg &&& 3) = nI (4 * r + rf_3 (fi P)) := by rw [hc, rf_4i]
    refine br_f o (And.intro h16 (And.intro h3 (And.intro (by rw [e1]; exact vp_in_nI (by omega) (by decide)) (And.intro (by rw [e2]; exact vp_in_nI (by omega) (by decide)) (nm_r (e' := ra_sl 4 r (upd g (rf_3 (fi P)) (e m)) rg) (by rw [e1, e2, nI_clamp (by omega), nI_clamp (by omega), ra_slr hm, ra_slu hx]) ?_)))))
    exact xf_46 hr hp
theorem xf_36 {k b : Int32} (hr : r < 3) (hp : post (fL, lk, fN, op, fi, se, st, ar, es, ev, sg, ch, va, tk, upd wk r (fN + (if b ≤ 100 then b else 100)), kn, rg, pl, sa, rs, mt, ia)) :
    wX_fallAsleep_36 post (nI r) b fL lk fN op fi se st ar es ev sg ch va tk (upd wk r k) kn rg pl sa rs mt ia := by
  have h3 := rf_in3 hr
  by_cases c : b ≤ 100
  · rw [if_pos c] at hp
    refine br_t c (And.intro h3 (nm_r (e' := upd wk r (fN + b)) (by rw [rf_c3 hr, ra_uu]) ?_))
    exact hp
  · rw [if_neg c] at hp
    refine br_f c (And.intro h3 (nm_r (e' := upd wk r (fN + 100)) (by rw [rf_c3 hr, ra_uu]) ?_))
    exact hp
theorem xf_sleep0 {P : Nat} {k s : Int32} (hr : r < 3) (hL : L ≤ 16) (hP : P < L) (hk : k = 0)
    (hp : post (fL, lk, fN, op, fi, se, st, ar, es, ev, sg, ch, va, tk, upd wk r (fN + rm_b (se P)), kn, rg, upd pl r (nI P), upd sa r 2, rs, mt, ia)) :
    wpX_fallAsleep post (fL, lk, fN, op, fi, se, st, ar, es, ev, sg, ch, va, tk, upd wk r k, kn, rg, upd pl r (nI P), upd sa r s, rs, mt, ia) (nI r) := by
  have h3 := rf_in3 hr
  subst hk
  have e1 : upd pl r (nI P) (nI r).toNatClampNeg = nI P := by rw [rf_c3 hr, pk_us]
  have hc : (nI P).toNatClampNeg = P := nI_clamp (by omega)
  refine And.intro h3 (nm_r (e' := upd sa r 2) (by rw [rf_c3 hr, ra_uu]) (And.intro h3 (br_t (by rw [rf_c3 hr, pk_us]; decide) (And.intro h3 (And.intro (by rw [e1]; exact vp_in_nI (by omega) (by decide)) (nm_r (e' := se P) (by rw [e1, hc]) ?_))))))
  unfold rm_b at hp
  by_cases c : 1 ≤ se P
  · rw [if_pos c] at hp
    refine br_t c ?_
    exact xf_36 hr hp
  · rw [if_neg c] at hp
    refine br_f c ?_
    exact xf_36 hr hp
theorem xf_sleep1 {k s : Int32} (hr : r < 3) (hk : ¬ k ≤ 0)
    (hp : post (fL, lk, fN, op, fi, se, st, ar, es, ev, sg, ch, va, tk, upd wk r k, kn, rg, pl, upd sa r 2, rs, mt, ia)) :
    wpX_fallAsleep post (fL, lk, fN, op, fi, se, st, ar, es, ev, sg, ch, va, tk, upd wk r k, kn, rg, pl, upd sa r s, rs, mt, ia) (nI r) := by
  have h3 := rf_in3 hr
  refine And.intro h3 (nm_r (e' := upd sa r 2) (by rw [rf_c3 hr, ra_uu]) (And.intro h3 (br_f (by rw [rf_c3 hr, pk_us]; exact hk) ?_)))
  exact hp
/-- the wait's second half, an event being there -/
theorem xf_57m {P a m N : Nat} {g e : Nat → Int32} (hr : r < 3) (hL : L ≤ 16) (hP : P < L) (hm : m < N) (hN : N ≤ 40)
    (hp : post (nI L, lk, fN, op, fi, se, st, ar, upd es r (nI N), ra_sl 40 r e ev, sg, ch, va, tk, wk, kn, ra_sl 4 r (rm_wg op fi g P (e m)) rg, upd pl r (nI (P + 1)), upd sa r (rm_s L (nI (P + 1)) 0), upd rs r 0, upd mt r (nI (m + 1)), upd ia r (nI 0))) :
    wX_await_57 post (nI r) (op P) (nI L) lk fN op fi se st ar (upd es r (nI N)) (ra_sl 40 r e ev) sg ch va tk wk kn (ra_sl 4 r g rg) (upd pl r (nI P)) (upd sa r 5) (upd rs r 0) (upd mt r (nI m)) (upd ia r (nI a)) := by
  have h3 := rf_in3 hr
  refine And.intro h3 (And.intro h3 (br_f (by rw [rf_c3 hr, pk_us, pk_us]; exact nI_ge hm (by omega)) ?_))
  refine xf_meet hr hL hP (by omega) ?_
  exact hp
theorem xf_awm {P a m N : Nat} {g e : Nat → Int32} (hr : r < 3) (hL : L ≤ 16) (hP : P < L) (hm : m < N) (hN : N ≤ 40)
    (hp : post (nI L, lk, fN, op, fi, se, st, ar, upd es r (nI N), ra_sl 40 r e ev, sg, ch, va, tk, wk, kn, ra_sl 4 r (rm_wg op fi g P (e m)) rg, upd pl r (nI (P + 1)), upd sa r (rm_s L (nI (P + 1)) 0), upd rs r 0, upd mt r (nI (m + 1)), upd ia r (nI 0))) :
    wpX_await post (nI L, lk, fN, op, fi, se, st, ar, upd es r (nI N), ra_sl 40 r e ev, sg, ch, va, tk, wk, kn, ra_sl 4 r g rg, upd pl r (nI P), upd sa r 5, upd rs r 0, upd mt r (nI m), upd ia r (nI a)) (nI r) (op P) := by
  have h3 := rf_in3 hr
  have e1 : upd mt r (nI m) (nI r).toNatClampNeg = nI m := by rw [rf_c3 hr, pk_us]
  have e2 : upd es r (nI N) (nI r).toNatClampNeg = nI N := by rw [rf_c3 hr, pk_us]
  refine And.intro h3 (br_t (by rw [e1]; exact nI_lt (b := 40) (by omega) (by decide)) (And.intro h3 (And.intro h3 (br_f (by rw [e1, e2, nI_eq (by omega) (by omega)]; omega) ?_))))
  exact xf_57m hr hL hP hm hN hp
theorem xf_awe {m : Nat} {o s q : Int32} (hr : r < 3) (hm : m = 40)
    (hp : post (fL, lk, fN, op, fi, se, st, ar, es, ev, sg, ch, va, tk, wk, kn, rg, pl, upd sa r 4, upd rs r 0, upd mt r (nI m), ia)) :
    wpX_await post (fL, lk, fN, op, fi, se, st, ar, es, ev, sg, ch, va, tk, wk, kn, rg, pl, upd sa r s, upd rs r q, upd mt r (nI m), ia) (nI r) o := by
  have h3 := rf_in3 hr
  have e1 : upd mt r (nI m) (nI r).toNatClampNeg = nI m := by rw [rf_c3 hr, pk_us]
  refine And.intro h3 (br_f (by rw [e1]; exact nI_nlt (b := 40) (by omega) (by omega)) ?_)
  refine xf_finish hr ?_
  exact hp
theorem xf_aw5 {m : Nat} {s : Int32} (hr : r < 3) (hm : m < 40)
    (hp : post (fL, lk, fN, op, fi, se, st, ar, upd es r (nI m), ev, sg, ch, va, tk, wk, kn, rg, pl, upd sa r 1, rs, upd mt r (nI m), ia)) :
    wpX_await post (fL, lk, fN, op, fi, se, st, ar, upd es r (nI m), ev, sg, ch, va, tk, wk, kn, rg, pl, upd sa r s, rs, upd mt r (nI m), ia) (nI r) 5 := by
  have h3 := rf_in3 hr
  have e1 : upd mt r (nI m) (nI r).toNatClampNeg = nI m := by rw [rf_c3 hr, pk_us]
  have e2 : upd es r (nI m) (nI r).toNatClampNeg = nI m := by rw [rf_c3 hr, pk_us]
  refine And.intro h3 (br_t (by rw [e1]; exact nI_lt (b := 40) hm (by decide)) (And.intro h3 (And.intro h3 (br_t (by rw [e1, e2]) (br_f (by decide) ?_)))))
  refine And.intro h3 (And.intro h3 (br_t (by rw [e1, e2]; exact nI_le (by omega) (by omega)) (br_t rfl (And.intro h3 (nm_r (e' := upd sa r 1) (by rw [rf_c3 hr, ra_uu]) ?_)))))
  exact hp
theorem xf_aw60 {m P : Nat} {s k : Int32} (hr : r < 3) (hm : m < 40) (hL : L ≤ 16) (hP : P < L) (hk : k = 0)
    (hp : post (fL, lk, fN, op, fi, se, st, ar, upd es r (nI m), ev, sg, ch, va, tk, upd wk r (fN + rm_b (se P)), kn, rg, upd pl r (nI P), upd sa r 2, rs, upd mt r (nI m), ia)) :
    wpX_await post (fL, lk, fN, op, fi, se, st, ar, upd es r (nI m), ev, sg, ch, va, tk, upd wk r k, kn, rg, upd pl r (nI P), upd sa r s, rs, upd mt r (nI m), ia) (nI r) 6 := by
  have h3 := rf_in3 hr
  have e1 : upd mt r (nI m) (nI r).toNatClampNeg = nI m := by rw [rf_c3 hr, pk_us]
  have e2 : upd es r (nI m) (nI r).toNatClampNeg = nI m := by rw [rf_c3 hr, pk_us]
  refine And.intro h3 (br_t (by rw [e1]; exact nI_lt (b := 40) hm (by decide)) (And.intro h3 (And.intro h3 (br_t (by rw [e1, e2]) (br_f (by decide) ?_)))))
  refine And.intro h3 (And.intro h3 (br_t (by rw [e1, e2]; exact nI_le (by omega) (by omega)) (br_f (by decide) (br_t rfl ?_))))
  refine xf_sleep0 hr hL hP hk ?_
  exact hp
theorem xf_aw61 {m : Nat} {s k : Int32} (hr : r < 3) (hm : m < 40) (hk : ¬ k ≤ 0)
    (hp : post (fL, lk, fN, op, fi, se, st, ar, upd es r (nI m), ev, sg, ch, va, tk, upd wk r k, kn, rg, pl, upd sa r 2, rs, upd mt r (nI m), ia)) :
    wpX_await post (fL, lk, fN, op, fi, se, st, ar, upd es r (nI m), ev, sg, ch, va, tk, upd wk r k, kn, rg, pl, upd sa r s, rs, upd mt r (nI m), ia) (nI r) 6 := by
  have h3 := rf_in3 hr
  have e1 : upd mt r (nI m) (nI r).toNatClampNeg = nI m := by rw [rf_c3 hr, pk_us]
  have e2 : upd es r (nI m) (nI r).toNatClampNeg = nI m := by rw [rf_c3 hr, pk_us]
  refine And.intro h3 (br_t (by rw [e1]; exact nI_lt (b := 40) hm (by decide)) (And.intro h3 (And.intro h3 (br_t (by rw [e1, e2]) (br_f (by decide) ?_)))))
  refine And.intro h3 (And.intro h3 (br_t (by rw [e1, e2]; exact nI_le (by omega) (by omega)) (br_f (by decide) (br_t rfl ?_))))
  refine xf_sleep1 hr hk ?_
  exact hp
theorem xf_aw70 {m S P : Nat} {s : Int32} {t : Nat → Int32} (hr : r < 3) (hm : m < 40) (hL : L ≤ 16) (hP : P < L) (hS : S ≤ 24) (hs : sg r = nI S) (hn : rm_no (ra_vw 24 r ch) t S (se P &&& 1))
    (hp : post (fL, lk, fN, op, fi, se, st, ar, upd es r (nI m), ev, sg, ch, va, ra_sl 24 r t tk, wk, kn, rg, upd pl r (nI P), upd sa r 3, rs, upd mt r (nI m), ia)) :
    wpX_await post (fL, lk, fN, op, fi, se, st, ar, upd es r (nI m), ev, sg, ch, va, ra_sl 24 r t tk, wk, kn, rg, upd pl r (nI P), upd sa r s, rs, upd mt r (nI m), ia) (nI r) 7 := by
  have h3 := rf_in3 hr
  have e1 : upd mt r (nI m) (nI r).toNatClampNeg = nI m := by rw [rf_c3 hr, pk_us]
  have e2 : upd es r (nI m) (nI r).toNatClampNeg = nI m := by rw [rf_c3 hr, pk_us]
  have e3 : upd pl r (nI P) (nI r).toNatClampNeg = nI P := by rw [rf_c3 hr, pk_us]
  have hc : (nI P).toNatClampNeg = P := nI_clamp (by omega)
  refine And.intro h3 (br_t (by rw [e1]; exact nI_lt (b := 40) hm (by decide)) (And.intro h3 (And.intro h3 (br_t (by rw [e1, e2]) (br_t rfl (And.intro h3 (And.intro (by rw [e3]; exact vp_in_nI (by omega) (by decide)) ?_)))))))
  rw [e3, hc]
  refine xf_takeS0 hr hS hs hn ?_
  refine And.intro h3 (And.intro h3 (br_t (by rw [e1, e2]; exact nI_le (by omega) (by omega)) (br_f (by decide) (br_f (by decide) (And.intro h3 (nm_r (e' := upd sa r 3) (by rw [rf_c3 hr, ra_uu]) ?_))))))
  exact hp
theorem xf_aw71 {m S P a i0 : Nat} {g t e : Nat → Int32} (hr : r < 3) (hm : m < 40) (hL : L ≤ 16) (hP : P < L) (ho : op P = 7) (hS : S ≤ 24) (hs : sg r = nI S) (hi0 : i0 < S) (ht : t i0 = 0) (hc0 : ra_vw 24 r ch i0 = se P &&& 1) (hn : rm_no (ra_vw 24 r ch) t i0 (se P &&& 1))
    (hp : post (nI L, lk, fN, op, fi, se, st, ar, upd es r (nI (m + 1)), ra_sl 40 r (upd e m (ra_vw 24 r va i0)) ev, sg, ch, va, ra_sl 24 r (upd t i0 1) tk, wk, kn, ra_sl 4 r (rm_wg op fi g P (ra_vw 24 r va i0)) rg, upd pl r (nI (P + 1)), upd sa r (rm_s L (nI (P + 1)) 0), upd rs r 0, upd mt r (nI (m + 1)), upd ia r (nI 0))) :
    wpX_await post (nI L, lk, fN, op, fi, se, st, ar, upd es r (nI m), ra_sl 40 r e ev, sg, ch, va, ra_sl 24 r t tk, wk, kn, ra_sl 4 r g rg, upd pl r (nI P), upd sa r 5, upd rs r 0, upd mt r (nI m), upd ia r (nI a)) (nI r) (op P) := by
  have h3 := rf_in3 hr
  have e1 : upd mt r (nI m) (nI r).toNatClampNeg = nI m := by rw [rf_c3 hr, pk_us]
  have e2 : upd es r (nI m) (nI r).toNatClampNeg = nI m := by rw [rf_c3 hr, pk_us]
  have e3 : upd pl r (nI P) (nI r).toNatClampNeg = nI P := by rw [rf_c3 hr, pk_us]
  have hc : (nI P).toNatClampNeg = P := nI_clamp (by omega)
  refine And.intro h3 (br_t (by rw [e1]; exact nI_lt (b := 40) hm (by decide)) (And.intro h3 (And.intro h3 (br_t (by rw [e1, e2]) (br_t ho (And.intro h3 (And.intro (by rw [e3]; exact vp_in_nI (by omega) (by decide)) ?_)))))))
  rw [e3, hc]
  refine xf_takeS1 hr hS hs hi0 ht hc0 hn hm ?_
  refine xf_57m hr hL hP (by omega) (by omega) ?_
  rw [pk_us]
  exact hp
end
end
section
section
variable {fL lk fN : Int32} {op fi se st ar es ev sg ch va tk wk kn rg pl sa rs mt ia : Nat → Int32} {r L : Nat} {post : SX → Prop} {g t e : Nat → Int32} {P a m N n i : Nat} {k : Int32}
theorem xs_plain (hr : r < 3) (hL : L ≤ 16) (hP : P < L) (ha : a < 60) (hi : i < 2600) (ho : rm_pl (op P))
    (h : wX_carryOn_20 post (nI r) n (nI (i + 1)) (nI L) lk fN op fi se st ar (upd es r (nI N)) (ra_sl 40 r e ev) sg ch va (ra_sl 24 r t tk) (upd wk r k) kn (ra_sl 4 r (rm_g op fi se g P) rg) (upd pl r (rm_p op fi se g P)) (upd sa r (rm_s L (rm_p op fi se g P) (a + 1))) (upd rs r 0) (upd mt r (nI m)) (upd ia r (nI (a + 1)))) :
    wX_carryOn_20 post (nI r) (n + 1) (nI i) (nI L) lk fN op fi se st ar (upd es r (nI N)) (ra_sl 40 r e ev) sg ch va (ra_sl 24 r t tk) (upd wk r k) kn (ra_sl 4 r g rg) (upd pl r (nI P)) (upd sa r 5) (upd rs r 0) (upd mt r (nI m)) (upd ia r (nI a)) := by
  have h3 := rf_in3 hr
  have e1 : upd pl r (nI P) (nI r).toNatClampNeg = nI P := by rw [rf_c3 hr, pk_us]
  have h16 : vp_in (upd pl r (nI P) (nI r).toNatClampNeg) 16 := by rw [e1]; exact vp_in_nI (by omega) (by decide)
  have hc : (nI P).toNatClampNeg = P := nI_clamp (by omega)
  refine br_f (nI_ge (b := 2600) hi (by decide)) (And.intro h3 (br_t (by rw [rf_c3 hr, pk_us]) (And.intro h3 (And.intro h16 (nm_r (e' := op P) (by rw [e1, hc]) (br_f (by rcases ho with o | o | o | o | o <;> rw [o] <;> decide) ?_))))))
  refine xf_plain hr hL hP ha ho ?_
  exact nm_r (e' := nI (i + 1)) (nI_1 i) h
/-- a wait's head -/
theorem xs_wait (hr : r < 3) (hL : L ≤ 16) (hP : P < L) (hm : m < N) (hN : N ≤ 40) (hi : i < 2600) (ho : rm_wt (op P))
    (h : wX_carryOn_20 post (nI r) n (nI (i + 1)) (nI L) lk fN op fi se st ar (upd es r (nI N)) (ra_sl 40 r e ev) sg ch va (ra_sl 24 r t tk) (upd wk r k) kn (ra_sl 4 r (rm_wg op fi g P (e m)) rg) (upd pl r (nI (P + 1))) (upd sa r (rm_s L (nI (P + 1)) 0)) (upd rs r 0) (upd mt r (nI (m + 1))) (upd ia r (nI 0))) :
    wX_carryOn_20 post (nI r) (n + 1) (nI i) (nI L) lk fN op fi se st ar (upd es r (nI N)) (ra_sl 40 r e ev) sg ch va (ra_sl 24 r t tk) (upd wk r k) kn (ra_sl 4 r g rg) (upd pl r (nI P)) (upd sa r 5) (upd rs r 0) (upd mt r (nI m)) (upd ia r (nI a)) := by
  have h3 := rf_in3 hr
  have e1 : upd pl r (nI P) (nI r).toNatClampNeg = nI P := by rw [rf_c3 hr, pk_us]
  have h16 : vp_in (upd pl r (nI P) (nI r).toNatClampNeg) 16 := by rw [e1]; exact vp_in_nI (by omega) (by decide)
  have hc : (nI P).toNatClampNeg = P := nI_clamp (by omega)
  refine br_f (nI_ge (b := 2600) hi (by decide)) (And.intro h3 (br_t (by rw [rf_c3 hr, pk_us]) (And.intro h3 (And.intro h16 (nm_r (e' := op P) (by rw [e1, hc]) (br_t (by rcases ho with o | o | o <;> rw [o] <;> decide) (br_f (by rcases ho with o | o | o <;> rw [o] <;> decide) ?_)))))))
  refine xf_awm hr hL hP hm hN ?_
  exact nm_r (e' := nI (i + 1)) (nI_1 i) h
theorem xs_sig {S i0 : Nat} (hr : r < 3) (hm : m < 40) (hL : L ≤ 16) (hP : P < L) (ho : op P = 7) (hi : i < 2600) (hS : S ≤ 24) (hs : sg r = nI S) (hi0 : i0 < S) (ht : t i0 = 0) (hc0 : ra_vw 24 r ch i0 = se P &&& 1) (hn : rm_no (ra_vw 24 r ch) t i0 (se P &&& 1))
    (h : wX_carryOn_20 post (nI r) n (nI (i + 1)) (nI L) lk fN op fi se st ar (upd es r (nI (m + 1))) (ra_sl 40 r (upd e m (ra_vw 24 r va i0)) ev) sg ch va (ra_sl 24 r (upd t i0 1) tk) (upd wk r k) kn (ra_sl 4 r (rm_wg op fi g P (ra_vw 24 r va i0)) rg) (upd pl r (nI (P + 1))) (upd sa r (rm_s L (nI (P + 1)) 0)) (upd rs r 0) (upd mt r (nI (m + 1))) (upd ia r (nI 0))) :
    wX_carryOn_20 post (nI r) (n + 1) (nI i) (nI L) lk fN op fi se st ar (upd es r (nI m)) (ra_sl 40 r e ev) sg ch va (ra_sl 24 r t tk) (upd wk r k) kn (ra_sl 4 r g rg) (upd pl r (nI P)) (upd sa r 5) (upd rs r 0) (upd mt r (nI m)) (upd ia r (nI a)) := by
  have h3 := rf_in3 hr
  have e1 : upd pl r (nI P) (nI r).toNatClampNeg = nI P := by rw [rf_c3 hr, pk_us]
  have h16 : vp_in (upd pl r (nI P) (nI r).toNatClampNeg) 16 := by rw [e1]; exact vp_in_nI (by omega) (by decide)
  have hc : (nI P).toNatClampNeg = P := nI_clamp (by omega)
  refine br_f (nI_ge (b := 2600) hi (by decide)) (And.intro h3 (br_t (by rw [rf_c3 hr, pk_us]) (And.intro h3 (And.intro h16 (nm_r (e' := op P) (by rw [e1, hc]) (br_t (by rw [ho]; decide) (br_f (by rw [ho]; decide) ?_)))))))
  refine xf_aw71 hr hm hL hP ho hS hs hi0 ht hc0 hn ?_
  exact nm_r (e' := nI (i + 1)) (nI_1 i) h
/-- the loop ends when the run doesn't work -/
theorem xs_end {s : Int32} (hr : r < 3) (hs : s ≠ 5) (h : post (fL, lk, fN, op, fi, se, st, ar, es, ev, sg, ch, va, tk, wk, kn, rg, pl, upd sa r s, rs, mt, ia)) :
    wX_carryOn_20 post (nI r) (n + 1) (nI i) fL lk fN op fi se st ar es ev sg ch va tk wk kn rg pl (upd sa r s) rs mt ia := by
  refine br_c (fun _ => h) (fun _ => And.intro (rf_in3 hr) (br_f (by rw [rf_c3 hr, pk_us]; exact hs) h))
theorem xs_end' {s : Int32} {x : Int32} (hr : r < 3) (hs : s ≠ 5) (h : post (fL, lk, fN, op, fi, se, st, ar, es, ev, sg, ch, va, tk, wk, kn, rg, pl, upd sa r s, rs, mt, ia)) :
    wX_carryOn_20 post (nI r) (n + 1) x fL lk fN op fi se st ar es ev sg ch va tk wk kn rg pl (upd sa r s) rs mt ia := by
  refine br_c (fun _ => h) (fun _ => And.intro (rf_in3 hr) (br_f (by rw [rf_c3 hr, pk_us]; exact hs) h))
/-- rest at an end -/
theorem xs_E {p q : Int32} (hr : r < 3) (hL : rm_ok L op) (hi : i < 2600) (ha : a ≤ 60) (hE : rm_E L op fi g p a m q)
    (h : post (nI L, lk, fN, op, fi, se, st, ar, upd es r (nI N), ra_sl 40 r e ev, sg, ch, va, ra_sl 24 r t tk, upd wk r k, kn, ra_sl 4 r g rg, upd pl r p, upd sa r 4, upd rs r q, upd mt r (nI m), upd ia r (nI a))) :
    wX_carryOn_20 post (nI r) (n + 2) (nI i) (nI L) lk fN op fi se st ar (upd es r (nI N)) (ra_sl 40 r e ev) sg ch va (ra_sl 24 r t tk) (upd wk r k) kn (ra_sl 4 r g rg) (upd pl r p) (upd sa r (rm_s L p a)) (upd rs r 0) (upd mt r (nI m)) (upd ia r (nI a)) := by
  have h3 := rf_in3 hr
  rcases hE with ⟨c, rfl⟩ | ⟨P, hP, rfl, ha, c⟩
  · rw [show rm_s L p a = 4 from if_pos (c.elim Or.inl fun z => z.elim (fun z => Or.inr (Or.inl z)) fun z => Or.inr (Or.inr (by omega)))]
    exact xs_end hr (by decide) h
  · rw [rm_sin hL.1 hP ha]
    have hL16 := hL.1
    have e1 : upd pl r (nI P) (nI r).toNatClampNeg = nI P := by rw [rf_c3 hr, pk_us]
    have h16 : vp_in (upd pl r (nI P) (nI r).toNatClampNeg) 16 := by rw [e1]; exact vp_in_nI (by omega) (by decide)
    have hc : (nI P).toNatClampNeg = P := nI_clamp (by omega)
    refine br_f (nI_ge (b := 2600) hi (by decide)) (And.intro h3 (br_t (by rw [rf_c3 hr, pk_us]) (And.intro h3 (And.intro h16 (nm_r (e' := op P) (by rw [e1, hc]) ?_)))))
    rcases c with ⟨ho, hm, rfl⟩ | ⟨ho, rfl⟩
    · refine br_t (by rcases ho with o | o | o <;> rw [o] <;> decide) (br_f (by rcases ho with o | o | o <;> rw [o] <;> decide) ?_)
      refine xf_awe hr hm ?_
      exact nm_e (xs_end' hr (by decide) h)
    · have hx := rf_3l (fi P)
      have e2 : nI r * 4 + (fi (upd pl r (nI P) (nI r).toNatClampNeg).toNatClampNeg &&& 3) = nI (4 * r + rf_3 (fi P)) := by rw [e1, hc, rf_4i]
      refine br_t (by rw [ho]; decide) (br_t (by rw [ho]; decide) (And.intro h3 (And.intro h16 (And.intro (by rw [e2]; exact vp_in_nI (by omega) (by decide)) ?_))))
      rw [e2, nI_clamp (by omega), ra_slr hx]
      refine xf_finish hr ?_
      exact nm_e (xs_end' hr (by decide) h)
/-- rest at a wait whose event isn't there -/
theorem xs_5 (hr : r < 3) (hL : L ≤ 16) (hi : i < 2600) (hP : P < L) (hm : m < 40) (ho : op P = 5)
    (h : post (nI L, lk, fN, op, fi, se, st, ar, upd es r (nI m), ra_sl 40 r e ev, sg, ch, va, ra_sl 24 r t tk, upd wk r k, kn, ra_sl 4 r g rg, upd pl r (nI P), upd sa r 1, upd rs r 0, upd mt r (nI m), upd ia r (nI a))) :
    wX_carryOn_20 post (nI r) (n + 2) (nI i) (nI L) lk fN op fi se st ar (upd es r (nI m)) (ra_sl 40 r e ev) sg ch va (ra_sl 24 r t tk) (upd wk r k) kn (ra_sl 4 r g rg) (upd pl r (nI P)) (upd sa r 5) (upd rs r 0) (upd mt r (nI m)) (upd ia r (nI a)) := by
  have h3 := rf_in3 hr
  have e1 : upd pl r (nI P) (nI r).toNatClampNeg = nI P := by rw [rf_c3 hr, pk_us]
  have h16 : vp_in (upd pl r (nI P) (nI r).toNatClampNeg) 16 := by rw [e1]; exact vp_in_nI (by omega) (by decide)
  have hc : (nI P).toNatClampNeg = P := nI_clamp (by omega)
  refine br_f (nI_ge (b := 2600) hi (by decide)) (And.intro h3 (br_t (by rw [rf_c3 hr, pk_us]) (And.intro h3 (And.intro h16 (nm_r (e' := 5) (by rw [e1, hc, ho]) (br_t (by decide) (br_f (by decide) ?_)))))))
  refine xf_aw5 hr hm ?_
  exact nm_e (xs_end' hr (by decide) h)
theorem xs_60 (hr : r < 3) (hL : L ≤ 16) (hi : i < 2600) (hP : P < L) (hm : m < 40) (ho : op P = 6)
    (h : post (nI L, lk, fN, op, fi, se, st, ar, upd es r (nI m), ra_sl 40 r e ev, sg, ch, va, ra_sl 24 r t tk, upd wk r (fN + rm_b (se P)), kn, ra_sl 4 r g rg, upd pl r (nI P), upd sa r 2, upd rs r 0, upd mt r (nI m), upd ia r (nI a))) :
    wX_carryOn_20 post (nI r) (n + 2) (nI i) (nI L) lk fN op fi se st ar (upd es r (nI m)) (ra_sl 40 r e ev) sg ch va (ra_sl 24 r t tk) (upd wk r 0) kn (ra_sl 4 r g rg) (upd pl r (nI P)) (upd sa r 5) (upd rs r 0) (upd mt r (nI m)) (upd ia r (nI a)) := by
  have h3 := rf_in3 hr
  have e1 : upd pl r (nI P) (nI r).toNatClampNeg = nI P := by rw [rf_c3 hr, pk_us]
  have h16 : vp_in (upd pl r (nI P) (nI r).toNatClampNeg) 16 := by rw [e1]; exact vp_in_nI (by omega) (by decide)
  have hc : (nI P).toNatClampNeg = P := nI_clamp (by omega)
  refine br_f (nI_ge (b := 2600) hi (by decide)) (And.intro h3 (br_t (by rw [rf_c3 hr, pk_us]) (And.intro h3 (And.intro h16 (nm_r (e' := 6) (by rw [e1, hc, ho]) (br_t (by decide) (br_f (by decide) ?_)))))))
  refine xf_aw60 hr hm hL hP rfl ?_
  exact nm_e (xs_end' hr (by decide) h)
theorem xs_61 (hr : r < 3) (hL : L ≤ 16) (hi : i < 2600) (hP : P < L) (hm : m < 40) (ho : op P = 6) (hk : ¬ k ≤ 0)
    (h : post (nI L, lk, fN, op, fi, se, st, ar, upd es r (nI m), ra_sl 40 r e ev, sg, ch, va, ra_sl 24 r t tk, upd wk r k, kn, ra_sl 4 r g rg, upd pl r (nI P), upd sa r 2, upd rs r 0, upd mt r (nI m), upd ia r (nI a))) :
    wX_carryOn_20 post (nI r) (n + 2) (nI i) (nI L) lk fN op fi se st ar (upd es r (nI m)) (ra_sl 40 r e ev) sg ch va (ra_sl 24 r t tk) (upd wk r k) kn (ra_sl 4 r g rg) (upd pl r (nI P)) (upd sa r 5) (upd rs r 0) (upd mt r (nI m)) (upd ia r (nI a)) := by
  have h3 := rf_in3 hr
  have e1 : upd pl r (nI P) (nI r).toNatClampNeg = nI P := by rw [rf_c3 hr, pk_us]
  have h16 : vp_in (upd pl r (nI P) (nI r).toNatClampNeg) 16 := by rw [e1]; exact vp_in_nI (by omega) (by decide)
  have hc : (nI P).toNatClampNeg = P := nI_clamp (by omega)
  refine br_f (nI_ge (b := 2600) hi (by decide)) (And.intro h3 (br_t (by rw [rf_c3 hr, pk_us]) (And.intro h3 (And.intro h16 (nm_r (e' := 6) (by rw [e1, hc, ho]) (br_t (by decide) (br_f (by decide) ?_)))))))
  refine xf_aw61 hr hm hk ?_
  exact nm_e (xs_end' hr (by decide) h)
theorem xs_7 {S : Nat} (hr : r < 3) (hL : L ≤ 16) (hi : i < 2600) (hP : P < L) (hm : m < 40) (ho : op P = 7) (hS : S ≤ 24) (hs : sg r = nI S) (hn : rm_no (ra_vw 24 r ch) t S (se P &&& 1))
    (h : post (nI L, lk, fN, op, fi, se, st, ar, upd es r (nI m), ra_sl 40 r e ev, sg, ch, va, ra_sl 24 r t tk, upd wk r k, kn, ra_sl 4 r g rg, upd pl r (nI P), upd sa r 3, upd rs r 0, upd mt r (nI m), upd ia r (nI a))) :
    wX_carryOn_20 post (nI r) (n + 2) (nI i) (nI L) lk fN op fi se st ar (upd es r (nI m)) (ra_sl 40 r e ev) sg ch va (ra_sl 24 r t tk) (upd wk r k) kn (ra_sl 4 r g rg) (upd pl r (nI P)) (upd sa r 5) (upd rs r 0) (upd mt r (nI m)) (upd ia r (nI a)) := by
  have h3 := rf_in3 hr
  have e1 : upd pl r (nI P) (nI r).toNatClampNeg = nI P := by rw [rf_c3 hr, pk_us]
  have h16 : vp_in (upd pl r (nI P) (nI r).toNatClampNeg) 16 := by rw [e1]; exact vp_in_nI (by omega) (by decide)
  have hc : (nI P).toNatClampNeg = P := nI_clamp (by omega)
  refine br_f (nI_ge (b := 2600) hi (by decide)) (And.intro h3 (br_t (by rw [rf_c3 hr, pk_us]) (And.intro h3 (And.intro h16 (nm_r (e' := 7) (by rw [e1, hc, ho]) (br_t (by decide) (br_f (by decide) ?_)))))))
  refine xf_aw70 hr hm hL hP hS hs hn ?_
  exact nm_e (xs_end' hr (by decide) h)
end
end
section
section
variable {fL lk fN : Int32} {op ya se ysa ypl ysp yrg yrs ywk yov ysg ch va ytk : Nat → Int32} {fi : Nat → Int32} {r L : Nat} {post : SY → Prop}
theorem yf_end {q s q0 : Int32} (hr : r < 3) (hp : post (fL, lk, fN, op, ya, se, upd ysa r 4, ypl, ysp, yrg, upd yrs r q, ywk, yov, ysg, ch, va, ytk)) :
    wpY_end post (fL, lk, fN, op, ya, se, upd ysa r s, ypl, ysp, yrg, upd yrs r q0, ywk, yov, ysg, ch, va, ytk) (nI r) q := by
  refine And.intro (rf_in3 hr) (nm_r (e' := upd ysa r 4) (by rw [rf_c3 hr, ra_uu]) (And.intro (rf_in3 hr) (nm_r (e' := upd yrs r q) (by rw [rf_c3 hr, ra_uu]) ?_)))
  exact hp
theorem yf_109n {P : Nat} {x3 x4 : Int32} (h16 : vp_in (nI P) 16) (n3 : ¬ op (nI P).toNatClampNeg = 3) (n4 : ¬ op (nI P).toNatClampNeg = 4) (hp : post (fL, lk, fN, op, ya, se, ysa, ypl, ysp, yrg, yrs, ywk, yov, ysg, ch, va, ytk)) :
    wY_plain_109 post (nI r) (nI P) x3 x4 fL lk fN op ya se ysa ypl ysp yrg yrs ywk yov ysg ch va ytk :=
  And.intro h16 (br_f n3 (And.intro h16 (br_f n4 hp)))
theorem yf_plain {P : Nat} {g : Nat → Int32} (hr : r < 3) (hL : L ≤ 16) (hP : P < L) (hya : ∀ j, ya j = fi j &&& 3) (ho : rm_pl (op P))
    (hp : post (fL, lk, fN, op, ya, se, ysa, upd ypl r (rm_p op fi se g P), ysp, ra_sl 4 r (rm_g op fi se g P) yrg, yrs, ywk, yov, ysg, ch, va, ytk)) :
    wpY_plain post (fL, lk, fN, op, ya, se, ysa, upd ypl r (nI P), ysp, ra_sl 4 r g yrg, yrs, ywk, yov, ysg, ch, va, ytk) (nI r) := by
  have h3 := rf_in3 hr
  have h16 : vp_in (nI P) 16 := vp_in_nI (by omega) (by decide)
  have hc : (nI P).toNatClampNeg = P := nI_clamp (by omega)
  have hx := rf_3l (fi P)
  have hy := rf_3l (se P)
  have i4 : vp_in (nI (4 * r + rf_3 (fi P))) 12 := vp_in_nI (by omega) (by decide)
  have i5 : vp_in (nI (4 * r + rf_3 (se P))) 12 := vp_in_nI (by omega) (by decide)
  have c4 : (nI (4 * r + rf_3 (fi P))).toNatClampNeg = 4 * r + rf_3 (fi P) := nI_clamp (by omega)
  have c5 : (nI (4 * r + rf_3 (se P))).toNatClampNeg = 4 * r + rf_3 (se P) := nI_clamp (by omega)
  refine And.intro h3 (nm_r (e' := nI P) (by rw [rf_c3 hr, pk_us]) (And.intro h16 (nm_r (e' := nI (4 * r + rf_3 (fi P))) (by rw [hc, hya, rf_4i]) (And.intro h16 (nm_r (e' := se P) (by rw [hc]) (And.intro (by rw [rf_4i]; exact i5) (nm_r (e' := g (rf_3 (se P))) (by rw [rf_4i, c5, ra_slr hy]) (And.intro h3 (nm_r (e' := upd ypl r (nI (P + 1))) (by rw [rf_c3 hr, nI_1, ra_uu]) (And.intro h16 ?_))))))))))
  rcases ho with o | o | o | o | o
  · have eo : op (nI P).toNatClampNeg = 0 := by rw [hc]; exact o
    rw [show rm_g op fi se g P = upd g (rf_3 (fi P)) (se P) by unfold rm_g; rw [o]; rfl, show rm_p op fi se g P = nI (P + 1) by unfold rm_p; rw [o]; rfl] at hp
    refine br_t eo (And.intro i4 (nm_r (e' := ra_sl 4 r (upd g (rf_3 (fi P)) (se P)) yrg) (by rw [c4, ra_slu hx]) (And.intro h16 (br_f (by rw [eo]; decide) (And.intro h16 (br_f (by rw [eo]; decide) ?_))))))
    exact yf_109n h16 (by rw [eo]; decide) (by rw [eo]; decide) hp
  · have eo : op (nI P).toNatClampNeg = 1 := by rw [hc]; exact o
    rw [show rm_g op fi se g P = upd g (rf_3 (fi P)) (g (rf_3 (fi P)) + g (rf_3 (se P))) by unfold rm_g; rw [o]; rfl, show rm_p op fi se g P = nI (P + 1) by unfold rm_p; rw [o]; rfl] at hp
    refine br_f (by rw [eo]; decide) (And.intro h16 (br_t eo (And.intro i4 (And.intro i4 (nm_r (e' := ra_sl 4 r (upd g (rf_3 (fi P)) (g (rf_3 (fi P)) + g (rf_3 (se P)))) yrg) (by rw [c4, ra_slr hx, ra_slu hx]) (And.intro h16 (br_f (by rw [eo]; decide) ?_)))))))
    exact yf_109n h16 (by rw [eo]; decide) (by rw [eo]; decide) hp
  · have eo : op (nI P).toNatClampNeg = 2 := by rw [hc]; exact o
    rw [show rm_g op fi se g P = upd g (rf_3 (fi P)) (g (rf_3 (fi P)) - g (rf_3 (se P))) by unfold rm_g; rw [o]; rfl, show rm_p op fi se g P = nI (P + 1) by unfold rm_p; rw [o]; rfl] at hp
    refine br_f (by rw [eo]; decide) (And.intro h16 (br_f (by rw [eo]; decide) (And.intro h16 (br_t eo (And.intro i4 (And.intro i4 (nm_r (e' := ra_sl 4 r (upd g (rf_3 (fi P)) (g (rf_3 (fi P)) - g (rf_3 (se P)))) yrg) (by rw [c4, ra_slr hx, ra_slu hx]) ?_)))))))
    exact yf_109n h16 (by rw [eo]; decide) (by rw [eo]; decide) hp
  · have eo : op (nI P).toNatClampNeg = 3 := by rw [hc]; exact o
    rw [show rm_g op fi se g P = g by unfold rm_g; rw [o]; rfl, show rm_p op fi se g P = se P by unfold rm_p; rw [o]; rfl] at hp
    refine br_f (by rw [eo]; decide) (And.intro h16 (br_f (by rw [eo]; decide) (And.intro h16 (br_f (by rw [eo]; decide) (And.intro h16 (br_t eo (And.intro h3 (nm_r (e' := upd ypl r (se P)) (by rw [rf_c3 hr, ra_uu]) ?_))))))))
    exact hp
  · have eo : op (nI P).toNatClampNeg = 4 := by rw [hc]; exact o
    rw [show rm_g op fi se g P = g by unfold rm_g; rw [o]; rfl] at hp
    have e4 : ra_sl 4 r g yrg (nI (4 * r + rf_3 (fi P))).toNatClampNeg = g (rf_3 (fi P)) := by rw [c4, ra_slr hx]
    refine br_f (by rw [eo]; decide) (And.intro h16 (br_f (by rw [eo]; decide) (And.intro h16 (br_f (by rw [eo]; decide) (And.intro h16 (br_f (by rw [eo]; decide) (And.intro h16 (br_t eo (And.intro i4 ?_)))))))))
    by_cases z : g (rf_3 (fi P)) ≤ 0
    · rw [show rm_p op fi se g P = nI (P + 1) by unfold rm_p; rw [o, if_neg (by decide), if_pos rfl, if_pos z]] at hp
      exact br_t (by rw [e4]; exact z) hp
    · rw [show rm_p op fi se g P = se P by unfold rm_p; rw [o, if_neg (by decide), if_pos rfl, if_neg z]] at hp
      refine br_f (by rw [e4]; exact z) (And.intro h3 (nm_r (e' := upd ypl r (se P)) (by rw [rf_c3 hr, ra_uu]) ?_))
      exact hp
theorem yf_25 {P a m : Nat} (hr : r < 3)
    (hp : post (fL, lk, fN, op, ya, se, ysa, upd ypl r (nI (P + 1)), upd ysp r (nI 0), yrg, yrs, ywk, upd yov r (nI (m + 1)), ysg, ch, va, ytk)) :
    wY_pastWait_25 post (nI r) fL lk fN op ya se ysa (upd ypl r (nI P)) (upd ysp r (nI a)) yrg yrs ywk (upd yov r (nI m)) ysg ch va ytk := by
  have h3 := rf_in3 hr
  refine And.intro h3 (And.intro h3 (nm_r (e' := upd ypl r (nI (P + 1))) (by rw [rf_c3 hr, pk_us, nI_1, ra_uu]) (And.intro h3 (nm_r (e' := upd ysp r (nI 0)) (by rw [rf_c3 hr, ra_uu]; rfl) (And.intro h3 (And.intro h3 (nm_r (e' := upd yov r (nI (m + 1))) (by rw [rf_c3 hr, pk_us, nI_1, ra_uu]) ?_)))))))
  exact hp
theorem yf_past1 {P a m : Nat} {g : Nat → Int32} {v : Int32} (hr : r < 3) (hL : L ≤ 16) (hP : P < L) (hya : ∀ j, ya j = fi j &&& 3) (ho : op P ≠ 6)
    (hp : post (fL, lk, fN, op, ya, se, ysa, upd ypl r (nI (P + 1)), upd ysp r (nI 0), ra_sl 4 r (rm_wg op fi g P v) yrg, yrs, ywk, upd yov r (nI (m + 1)), ysg, ch, va, ytk)) :
    wpY_pastWait post (fL, lk, fN, op, ya, se, ysa, upd ypl r (nI P), upd ysp r (nI a), ra_sl 4 r g yrg, yrs, ywk, upd yov r (nI m), ysg, ch, va, ytk) (nI r) 1 v := by
  have h3 := rf_in3 hr
  have hx := rf_3l (fi P)
  have e1 : upd ypl r (nI P) (nI r).toNatClampNeg = nI P := by rw [rf_c3 hr, pk_us]
  have hc : (nI P).toNatClampNeg = P := nI_clamp (by omega)
  have e2 : nI r * 4 + ya (upd ypl r (nI P) (nI r).toNatClampNeg).toNatClampNeg = nI (4 * r + rf_3 (fi P)) := by rw [e1, hc, hya, rf_4i]
  rw [show rm_wg op fi g P v = upd g (rf_3 (fi P)) v from if_neg ho] at hp
  refine br_f (by decide) (And.intro h3 (And.intro (by rw [e1]; exact vp_in_nI (by omega) (by decide)) (And.intro (by rw [e2]; exact vp_in_nI (by omega) (by decide)) (nm_r (e' := ra_sl 4 r (upd g (rf_3 (fi P)) v) yrg) (by rw [e2, nI_clamp (by omega), ra_slu hx]) ?_))))
  exact yf_25 hr hp
theorem yf_past0 {P a m : Nat} {v : Int32} (hr : r < 3)
    (hp : post (fL, lk, fN, op, ya, se, ysa, upd ypl r (nI (P + 1)), upd ysp r (nI 0), yrg, yrs, ywk, upd yov r (nI (m + 1)), ysg, ch, va, ytk)) :
    wpY_pastWait post (fL, lk, fN, op, ya, se, ysa, upd ypl r (nI P), upd ysp r (nI a), yrg, yrs, ywk, upd yov r (nI m), ysg, ch, va, ytk) (nI r) 0 v := by
  refine br_t rfl ?_
  exact yf_25 hr hp
end
section
variable {fL lk fN : Int32} {op ya se ysa ypl ysp yrg yrs ywk yov ysg ch va ytk : Nat → Int32} {r : Nat} {post : Int32 → Prop}
theorem yf_first0 {S : Nat} {t : Nat → Int32} {c : Int32} (hr : r < 3) (hS : S ≤ 24) (hs : ysg r = nI S) (hn : rm_no (ra_vw 24 r ch) t S c)
    (hp : post (-1)) : ∀ d i n, i + d = S → d < n → wY_firstSignal_5 post (nI r) c fL lk fN op ya se ysa ypl ysp yrg yrs ywk yov ysg ch va (ra_sl 24 r t ytk) n (nI (24 * r + i)) := by
  have h3 := rf_in3 hr
  have e1 : nI r * 24 + ysg (nI r).toNatClampNeg = nI (24 * r + S) := by rw [rf_c3 hr, hs, rf_24i]
  intro d
  induction d with
  | zero =>
    intro i n hi hn
    obtain ⟨n, rfl⟩ : ∃ k, n = k + 1 := ⟨n - 1, by omega⟩
    exact And.intro h3 (br_t (by rw [e1]; exact nI_le (by omega) (by omega)) hp)
  | succ d ih =>
    intro i n hi hd
    obtain ⟨n, rfl⟩ : ∃ k, n = k + 1 := ⟨n - 1, by omega⟩
    have h72 : vp_in (nI (24 * r + i)) 72 := vp_in_nI (by omega) (by decide)
    have hc : (nI (24 * r + i)).toNatClampNeg = 24 * r + i := nI_clamp (by omega)
    have e2 : ra_sl 24 r t ytk (nI (24 * r + i)).toNatClampNeg = t i := by rw [hc, ra_slr (by omega)]
    have e3 : ch (nI (24 * r + i)).toNatClampNeg = ra_vw 24 r ch i := by rw [hc, ra_vwr (by omega)]
    refine And.intro h3 (br_f (by rw [e1]; exact nI_ge (by omega) (by omega)) (And.intro h72 ?_))
    by_cases z : ra_vw 24 r ch i = c
    · refine br_t (by rw [e3]; exact z) (And.intro h72 (br_f (by rw [e2]; exact fun y => hn i (by omega) ⟨y, z⟩) (nm_r (e' := nI (24 * r + (i + 1))) (nI_1 _) ?_)))
      exact ih (i + 1) n (by omega) (by omega)
    · refine br_f (by rw [e3]; exact z) (nm_r (e' := nI (24 * r + (i + 1))) (nI_1 _) ?_)
      exact ih (i + 1) n (by omega) (by omega)
theorem yf_first1 {S i0 : Nat} {t : Nat → Int32} {c : Int32} (hr : r < 3) (hS : S ≤ 24) (hs : ysg r = nI S) (hi0 : i0 < S) (ht : t i0 = 0) (hc0 : ra_vw 24 r ch i0 = c)
    (hn : rm_no (ra_vw 24 r ch) t i0 c)
    (hp : post (nI (24 * r + i0))) : ∀ d i n, i + d = i0 → d < n → wY_firstSignal_5 post (nI r) c fL lk fN op ya se ysa ypl ysp yrg yrs ywk yov ysg ch va (ra_sl 24 r t ytk) n (nI (24 * r + i)) := by
  have h3 := rf_in3 hr
  have e1 : nI r * 24 + ysg (nI r).toNatClampNeg = nI (24 * r + S) := by rw [rf_c3 hr, hs, rf_24i]
  intro d
  induction d with
  | zero =>
    intro i n hi hn
    obtain ⟨n, rfl⟩ : ∃ k, n = k + 1 := ⟨n - 1, by omega⟩
    obtain rfl : i = i0 := by omega
    have h72 : vp_in (nI (24 * r + i)) 72 := vp_in_nI (by omega) (by decide)
    have hc : (nI (24 * r + i)).toNatClampNeg = 24 * r + i := nI_clamp (by omega)
    have e2 : ra_sl 24 r t ytk (nI (24 * r + i)).toNatClampNeg = t i := by rw [hc, ra_slr (by omega)]
    have e3 : ch (nI (24 * r + i)).toNatClampNeg = ra_vw 24 r ch i := by rw [hc, ra_vwr (by omega)]
    exact And.intro h3 (br_f (by rw [e1]; exact nI_ge (by omega) (by omega)) (And.intro h72 (br_t (by rw [e3]; exact hc0) (And.intro h72 (br_t (by rw [e2]; exact ht) hp)))))
  | succ d ih =>
    intro i n hi hd
    obtain ⟨n, rfl⟩ : ∃ k, n = k + 1 := ⟨n - 1, by omega⟩
    have h72 : vp_in (nI (24 * r + i)) 72 := vp_in_nI (by omega) (by decide)
    have hc : (nI (24 * r + i)).toNatClampNeg = 24 * r + i := nI_clamp (by omega)
    have e2 : ra_sl 24 r t ytk (nI (24 * r + i)).toNatClampNeg = t i := by rw [hc, ra_slr (by omega)]
    have e3 : ch (nI (24 * r + i)).toNatClampNeg = ra_vw 24 r ch i := by rw [hc, ra_vwr (by omega)]
    refine And.intro h3 (br_f (by rw [e1]; exact nI_ge (by omega) (by omega)) (And.intro h72 ?_))
    by_cases z : ra_vw 24 r ch i = c
    · refine br_t (by rw [e3]; exact z) (And.intro h72 (br_f (by rw [e2]; exact fun y => hn i (by omega) ⟨y, z⟩) (nm_r (e' := nI (24 * r + (i + 1))) (nI_1 _) ?_)))
      exact ih (i + 1) n (by omega) (by omega)
    · refine br_f (by rw [e3]; exact z) (nm_r (e' := nI (24 * r + (i + 1))) (nI_1 _) ?_)
      exact ih (i + 1) n (by omega) (by omega)
theorem yf_firstS0 {S : Nat} {t : Nat → Int32} {c : Int32} (hr : r < 3) (hS : S ≤ 24) (hs : ysg r = nI S) (hn : rm_no (ra_vw 24 r ch) t S c)
    (hp : post (-1)) : wpY_firstSignal post (fL, lk, fN, op, ya, se, ysa, ypl, ysp, yrg, yrs, ywk, yov, ysg, ch, va, ra_sl 24 r t ytk) (nI r) c :=
  nm_r (e' := nI (24 * r + 0)) (rf_24 r) (Exists.intro (S + 1) (yf_first0 hr hS hs hn hp S 0 (S + 1) (by omega) (by omega)))
theorem yf_firstS1 {S i0 : Nat} {t : Nat → Int32} {c : Int32} (hr : r < 3) (hS : S ≤ 24) (hs : ysg r = nI S) (hi0 : i0 < S) (ht : t i0 = 0) (hc0 : ra_vw 24 r ch i0 = c)
    (hn : rm_no (ra_vw 24 r ch) t i0 c)
    (hp : post (nI (24 * r + i0))) : wpY_firstSignal post (fL, lk, fN, op, ya, se, ysa, ypl, ysp, yrg, yrs, ywk, yov, ysg, ch, va, ra_sl 24 r t ytk) (nI r) c :=
  nm_r (e' := nI (24 * r + 0)) (rf_24 r) (Exists.intro (i0 + 1) (yf_first1 hr hS hs hi0 ht hc0 hn hp i0 0 (i0 + 1) (by omega) (by omega)))
end
section
variable {fL lk fN : Int32} {op ya se ysa ypl ysp yrg yrs ywk yov ysg ch va ytk : Nat → Int32} {fi : Nat → Int32} {r L P : Nat} {post : Int32 → SY → Prop}
theorem yf_112n {x3 : Int32} (h7 : ¬ x3 = 7) (hp : post 0 (fL, lk, fN, op, ya, se, ysa, ypl, ysp, yrg, yrs, ywk, yov, ysg, ch, va, ytk)) : wY_waits_112 post (nI r) (nI P) x3 fL lk fN op ya se ysa ypl ysp yrg yrs ywk yov ysg ch va ytk := br_f h7 hp
theorem yf_w8 {s q0 : Int32} {g : Nat → Int32} (hr : r < 3) (hL : L ≤ 16) (hP : P < L) (hya : ∀ j, ya j = fi j &&& 3) (ho : op P = 8)
    (hp : post 0 (fL, lk, fN, op, ya, se, upd ysa r 4, upd ypl r (nI P), ysp, ra_sl 4 r g yrg, upd yrs r (g (rf_3 (fi P))), ywk, yov, ysg, ch, va, ytk)) :
    wpY_waits post (fL, lk, fN, op, ya, se, upd ysa r s, upd ypl r (nI P), ysp, ra_sl 4 r g yrg, upd yrs r q0, ywk, yov, ysg, ch, va, ytk) (nI r) := by
  have h3 := rf_in3 hr
  have h16 : vp_in (nI P) 16 := vp_in_nI (by omega) (by decide)
  have hc : (nI P).toNatClampNeg = P := nI_clamp (by omega)
  have hx := rf_3l (fi P)
  have e2 : nI r * 4 + ya (nI P).toNatClampNeg = nI (4 * r + rf_3 (fi P)) := by rw [hc, hya, rf_4i]
  refine And.intro h3 (nm_r (e' := nI P) (by rw [rf_c3 hr, pk_us]) (And.intro h16 (nm_r (e' := 8) (by rw [hc, ho]) (br_t rfl (And.intro h16 (And.intro (by rw [e2]; exact vp_in_nI (by omega) (by decide)) ?_))))))
  rw [e2, nI_clamp (by omega), ra_slr hx]
  refine yf_end hr ?_
  exact br_f (by decide) (br_f (by decide) (yf_112n (by decide) hp))
theorem yf_w5 {s : Int32} (hr : r < 3) (hL : L ≤ 16) (hP : P < L) (ho : op P = 5)
    (hp : post 0 (fL, lk, fN, op, ya, se, upd ysa r 1, upd ypl r (nI P), ysp, yrg, yrs, ywk, yov, ysg, ch, va, ytk)) :
    wpY_waits post (fL, lk, fN, op, ya, se, upd ysa r s, upd ypl r (nI P), ysp, yrg, yrs, ywk, yov, ysg, ch, va, ytk) (nI r) := by
  have h3 := rf_in3 hr
  have h16 : vp_in (nI P) 16 := vp_in_nI (by omega) (by decide)
  have hc : (nI P).toNatClampNeg = P := nI_clamp (by omega)
  refine And.intro h3 (nm_r (e' := nI P) (by rw [rf_c3 hr, pk_us]) (And.intro h16 (nm_r (e' := 5) (by rw [hc, ho]) (br_f (by decide) ?_))))
  refine br_t rfl (And.intro h3 (nm_r (e' := upd ysa r 1) (by rw [rf_c3 hr, ra_uu]) ?_))
  exact br_f (by decide) (yf_112n (by decide) hp)
theorem yf_w6 {s k : Int32} (hr : r < 3) (hL : L ≤ 16) (hP : P < L) (ho : op P = 6)
    (hp : post 0 (fL, lk, fN, op, ya, se, upd ysa r 2, upd ypl r (nI P), ysp, yrg, yrs, upd ywk r (fN + rm_b (se P)), yov, ysg, ch, va, ytk)) :
    wpY_waits post (fL, lk, fN, op, ya, se, upd ysa r s, upd ypl r (nI P), ysp, yrg, yrs, upd ywk r k, yov, ysg, ch, va, ytk) (nI r) := by
  have h3 := rf_in3 hr
  have h16 : vp_in (nI P) 16 := vp_in_nI (by omega) (by decide)
  have hc : (nI P).toNatClampNeg = P := nI_clamp (by omega)
  have eb : se (nI P).toNatClampNeg = se P := by rw [hc]
  refine And.intro h3 (nm_r (e' := nI P) (by rw [rf_c3 hr, pk_us]) (And.intro h16 (nm_r (e' := 6) (by rw [hc, ho]) (br_f (by decide) ?_))))
  refine br_f (by decide) ?_
  refine br_t rfl (And.intro h3 (nm_r (e' := upd ysa r 2) (by rw [rf_c3 hr, ra_uu]) (And.intro h16 ?_)))
  unfold rm_b at hp
  rw [eb]
  by_cases c : 1 ≤ se P
  · rw [if_pos c] at hp
    by_cases d : se P ≤ 100
    · rw [if_pos d] at hp
      refine br_t c (And.intro h16 (br_t d (And.intro h16 (And.intro h3 (nm_r (e' := upd ywk r (fN + se P)) (by rw [rf_c3 hr, ra_uu]) ?_)))))
      exact yf_112n (by decide) hp
    · rw [if_neg d] at hp
      refine br_t c (And.intro h16 (br_f d (And.intro h3 (nm_r (e' := upd ywk r (fN + 100)) (by rw [rf_c3 hr, ra_uu]) ?_))))
      exact yf_112n (by decide) hp
  · rw [if_neg c] at hp
    refine br_f c (And.intro h3 (nm_r (e' := upd ywk r (fN + 1)) (by rw [rf_c3 hr, ra_uu]) ?_))
    exact yf_112n (by decide) hp
theorem yf_w70 {s : Int32} {S : Nat} {t : Nat → Int32} (hr : r < 3) (hL : L ≤ 16) (hP : P < L) (ho : op P = 7) (hS : S ≤ 24) (hs : ysg r = nI S) (hn : rm_no (ra_vw 24 r ch) t S (se P &&& 1))
    (hp : post 0 (fL, lk, fN, op, ya, se, upd ysa r 3, upd ypl r (nI P), ysp, yrg, yrs, ywk, yov, ysg, ch, va, ra_sl 24 r t ytk)) :
    wpY_waits post (fL, lk, fN, op, ya, se, upd ysa r s, upd ypl r (nI P), ysp, yrg, yrs, ywk, yov, ysg, ch, va, ra_sl 24 r t ytk) (nI r) := by
  have h3 := rf_in3 hr
  have h16 : vp_in (nI P) 16 := vp_in_nI (by omega) (by decide)
  have hc : (nI P).toNatClampNeg = P := nI_clamp (by omega)
  have eb : se (nI P).toNatClampNeg = se P := by rw [hc]
  refine And.intro h3 (nm_r (e' := nI P) (by rw [rf_c3 hr, pk_us]) (And.intro h16 (nm_r (e' := 7) (by rw [hc, ho]) (br_f (by decide) (br_f (by decide) (br_f (by decide) (br_t rfl (And.intro h16 ?_))))))))
  rw [eb]
  refine yf_firstS0 hr hS hs hn ?_
  refine And.intro h3 (nm_r (e' := upd ysa r 3) (by rw [rf_c3 hr, ra_uu]) (br_f (by decide) ?_))
  exact hp
theorem yf_w71 {s : Int32} {S i0 a m : Nat} {t g : Nat → Int32} (hr : r < 3) (hL : L ≤ 16) (hP : P < L) (hya : ∀ j, ya j = fi j &&& 3) (ho : op P = 7) (hS : S ≤ 24) (hs : ysg r = nI S) (hi0 : i0 < S) (ht : t i0 = 0) (hc0 : ra_vw 24 r ch i0 = se P &&& 1) (hn : rm_no (ra_vw 24 r ch) t i0 (se P &&& 1))
    (hp : post 1 (fL, lk, fN, op, ya, se, upd ysa r 3, upd ypl r (nI (P + 1)), upd ysp r (nI 0), ra_sl 4 r (rm_wg op fi g P (ra_vw 24 r va i0)) yrg, yrs, ywk, upd yov r (nI (m + 1)), ysg, ch, va, ra_sl 24 r (upd t i0 1) ytk)) :
    wpY_waits post (fL, lk, fN, op, ya, se, upd ysa r s, upd ypl r (nI P), upd ysp r (nI a), ra_sl 4 r g yrg, yrs, ywk, upd yov r (nI m), ysg, ch, va, ra_sl 24 r t ytk) (nI r) := by
  have h3 := rf_in3 hr
  have h16 : vp_in (nI P) 16 := vp_in_nI (by omega) (by decide)
  have hc : (nI P).toNatClampNeg = P := nI_clamp (by omega)
  have eb : se (nI P).toNatClampNeg = se P := by rw [hc]
  refine And.intro h3 (nm_r (e' := nI P) (by rw [rf_c3 hr, pk_us]) (And.intro h16 (nm_r (e' := 7) (by rw [hc, ho]) (br_f (by decide) (br_f (by decide) (br_f (by decide) (br_t rfl (And.intro h16 ?_))))))))
  rw [eb]
  refine yf_firstS1 hr hS hs hi0 ht hc0 hn ?_
  have h72 : vp_in (nI (24 * r + i0)) 72 := vp_in_nI (by omega) (by decide)
  have hc2 : (nI (24 * r + i0)).toNatClampNeg = 24 * r + i0 := nI_clamp (by omega)
  have e4 : va (nI (24 * r + i0)).toNatClampNeg = ra_vw 24 r va i0 := by rw [hc2, ra_vwr (by omega)]
  refine And.intro h3 (nm_r (e' := upd ysa r 3) (by rw [rf_c3 hr, ra_uu]) (br_t (nI_pos' (by omega)) (And.intro h72 (nm_r (e' := ra_sl 24 r (upd t i0 1) ytk) (by rw [hc2]; exact ra_slu (by omega)) (And.intro h72 ?_)))))
  rw [e4]
  refine yf_past1 hr hL hP hya (by rw [ho]; decide) ?_
  exact hp
end
end
section
section
variable {fL lk fN : Int32} {op ya se ysa ypl ysp yrg yrs ywk yov ysg ch va ytk : Nat → Int32} {fi : Nat → Int32} {r L : Nat} {post : SY → Prop} {g t : Nat → Int32} {P a m n i : Nat} {k s q : Int32}
theorem ys_end {x3 : Int32} (h : post (fL, lk, fN, op, ya, se, ysa, ypl, ysp, yrg, yrs, ywk, yov, ysg, ch, va, ytk)) : wY_goOn_4 post (nI r) (n + 1) 0 x3 fL lk fN op ya se ysa ypl ysp yrg yrs ywk yov ysg ch va ytk :=
  br_c (fun _ => h) (fun _ => br_t rfl h)
/-- the head inside the script with instructions left -/
theorem ys_plain (hr : r < 3) (hL : L ≤ 16) (hP : P < L) (ha : a < 60) (hi : i < 3000) (hya : ∀ j, ya j = fi j &&& 3) (ho : rm_pl (op P))
    (h : wY_goOn_4 post (nI r) n 1 (nI (i + 1)) (nI L) lk fN op ya se (upd ysa r s) (upd ypl r (rm_p op fi se g P)) (upd ysp r (nI (a + 1))) (ra_sl 4 r (rm_g op fi se g P) yrg) (upd yrs r q) (upd ywk r k) (upd yov r (nI m)) ysg ch va (ra_sl 24 r t ytk)) :
    wY_goOn_4 post (nI r) (n + 1) 1 (nI i) (nI L) lk fN op ya se (upd ysa r s) (upd ypl r (nI P)) (upd ysp r (nI a)) (ra_sl 4 r g yrg) (upd yrs r q) (upd ywk r k) (upd yov r (nI m)) ysg ch va (ra_sl 24 r t ytk) := by
  have h3 := rf_in3 hr
  have e1 : upd ypl r (nI P) (nI r).toNatClampNeg = nI P := by rw [rf_c3 hr, pk_us]
  have h16 : vp_in (upd ypl r (nI P) (nI r).toNatClampNeg) 16 := by rw [e1]; exact vp_in_nI (by omega) (by decide)
  have hc : (nI P).toNatClampNeg = P := nI_clamp (by omega)
  have e2 : op (upd ypl r (nI P) (nI r).toNatClampNeg).toNatClampNeg = op P := by rw [e1, hc]
  have o5 : op (upd ypl r (nI P) (nI r).toNatClampNeg).toNatClampNeg < 5 := by
    rw [e2]
    rcases ho with o | o | o | o | o <;> rw [o] <;> decide
  refine br_f (nI_ge (b := 3000) hi (by decide)) (br_f (by decide) (And.intro h3 (br_f (by rw [e1]; exact nI_pos (by omega)) (And.intro h3 (br_f (by rw [e1]; exact nI_ge hP (by omega)) ?_)))))
  refine br_f (by decide) (And.intro h3 (br_f (by rw [rf_c3 hr, pk_us]; exact fun z => absurd ((nI_eq (b := 60) (by omega) (by decide)).mp z) (by omega)) (And.intro h3 ?_)))
  refine And.intro h16 (br_t o5 (br_t rfl ?_))
  refine And.intro h3 (And.intro h16 (br_t o5 (And.intro h3 (And.intro h3 (nm_r (e' := upd ysp r (nI (a + 1))) (by rw [rf_c3 hr, pk_us, nI_1, ra_uu]) ?_)))))
  refine yf_plain hr hL hP hya ho ?_
  exact nm_r (e' := nI (i + 1)) (nI_1 i) h
theorem ys_84 {x3 : Int32} (hr : r < 3) (h : post (fL, lk, fN, op, ya, se, upd ysa r 4, ypl, ysp, yrg, upd yrs r 0, ywk, yov, ysg, ch, va, ytk)) :
    wY_goOn_84 post (wY_goOn_4 post (nI r) (n + 1)) (nI r) x3 fL lk fN op ya se (upd ysa r s) ypl ysp yrg (upd yrs r q) ywk yov ysg ch va ytk := by
  unfold wY_goOn_84
  refine yf_end hr ?_
  exact nm_e (ys_end h)
/-- the head where a run ends -/
theorem ys_E {p : Int32} (hr : r < 3) (hL : rm_ok L op) (hi : i < 3000) (hya : ∀ j, ya j = fi j &&& 3) (hE : rm_E L op fi g p a m q)
    (h : post (nI L, lk, fN, op, ya, se, upd ysa r 4, upd ypl r p, upd ysp r (nI a), ra_sl 4 r g yrg, upd yrs r q, upd ywk r k, upd yov r (nI m), ysg, ch, va, ra_sl 24 r t ytk)) :
    wY_goOn_4 post (nI r) (n + 2) 1 (nI i) (nI L) lk fN op ya se (upd ysa r s) (upd ypl r p) (upd ysp r (nI a)) (ra_sl 4 r g yrg) (upd yrs r 0) (upd ywk r k) (upd yov r (nI m)) ysg ch va (ra_sl 24 r t ytk) := by
  have h3 := rf_in3 hr
  have hL16 := hL.1
  have e1 : upd ypl r p (nI r).toNatClampNeg = p := by rw [rf_c3 hr, pk_us]
  refine br_f (nI_ge (b := 3000) hi (by decide)) (br_f (by decide) (And.intro h3 ?_))
  rcases pk_ix p (n := L) (by omega) with c | c | ⟨P, hP, rfl⟩
  · have hq : q = 0 := by
      rcases hE with ⟨-, e⟩ | ⟨P, hP, rfl, -⟩
      · exact e
      · exact absurd c (nI_pos (by omega))
    subst hq
    refine br_t (by rw [e1]; exact c) (br_t rfl ?_)
    exact ys_84 hr h
  · have hq : q = 0 := by
      rcases hE with ⟨-, e⟩ | ⟨P, hP, rfl, -⟩
      · exact e
      · exact absurd c (nI_ge hP (by omega))
    subst hq
    by_cases c0 : p < 0
    · refine br_t (by rw [e1]; exact c0) (br_t rfl ?_)
      exact ys_84 hr h
    · refine br_f (by rw [e1]; exact c0) (And.intro h3 (br_t (by rw [e1]; exact c) (br_t rfl ?_)))
      exact ys_84 hr h
  · have h16 : vp_in (upd ypl r (nI P) (nI r).toNatClampNeg) 16 := by rw [e1]; exact vp_in_nI (by omega) (by decide)
    have hc : (nI P).toNatClampNeg = P := nI_clamp (by omega)
    have e2 : op (upd ypl r (nI P) (nI r).toNatClampNeg).toNatClampNeg = op P := by rw [e1, hc]
    refine br_f (by rw [e1]; exact nI_pos (by omega)) (And.intro h3 (br_f (by rw [e1]; exact nI_ge hP (by omega)) (br_f (by decide) (And.intro h3 ?_))))
    rcases hE with ⟨c, hq⟩ | ⟨P', hP', e, ha, c⟩
    · subst hq
      have c60 : a = 60 := by
        rcases c with c | c | c
        · exact absurd c (nI_pos (by omega))
        · exact absurd c (nI_ge hP (by omega))
        · exact c
      subst c60
      refine br_t (by rw [rf_c3 hr, pk_us]; rfl) ?_
      exact ys_84 hr h
    · obtain rfl : P = P' := (nI_eq (by omega) (by omega)).mp e
      refine br_f (by rw [rf_c3 hr, pk_us]; exact fun z => absurd ((nI_eq (b := 60) (by omega) (by decide)).mp z) (by omega)) (And.intro h3 ?_)
      rcases c with ⟨ho, hm, hq⟩ | ⟨ho, hq⟩
      · subst hq hm
        refine And.intro h16 (br_f (by rw [e2]; rcases ho with o | o | o <;> rw [o] <;> decide) (And.intro h16 (br_f (by rw [e2]; rcases ho with o | o | o <;> rw [o] <;> decide) ?_)))
        refine br_f (by decide) (And.intro h3 (br_t (by rw [rf_c3 hr, pk_us]; rfl) ?_))
        exact ys_84 hr h
      · subst hq
        refine And.intro h16 (br_f (by rw [e2, ho]; decide) (And.intro h16 (br_t (by rw [e2, ho]; decide) (br_t rfl ?_))))
        refine And.intro h3 (And.intro h16 (br_f (by rw [e2, ho]; decide) ?_))
        refine yf_w8 hr hL16 hP hya ho ?_
        exact nm_e (ys_end h)
theorem ys_5 (hr : r < 3) (hL : L ≤ 16) (hP : P < L) (ha : a < 60) (hm : m < 40) (hi : i < 3000) (ho : op P = 5)
    (h : post (nI L, lk, fN, op, ya, se, upd ysa r 1, upd ypl r (nI P), upd ysp r (nI a), ra_sl 4 r g yrg, upd yrs r q, upd ywk r k, upd yov r (nI m), ysg, ch, va, ra_sl 24 r t ytk)) :
    wY_goOn_4 post (nI r) (n + 2) 1 (nI i) (nI L) lk fN op ya se (upd ysa r s) (upd ypl r (nI P)) (upd ysp r (nI a)) (ra_sl 4 r g yrg) (upd yrs r q) (upd ywk r k) (upd yov r (nI m)) ysg ch va (ra_sl 24 r t ytk) := by
  have h3 := rf_in3 hr
  have e1 : upd ypl r (nI P) (nI r).toNatClampNeg = nI P := by rw [rf_c3 hr, pk_us]
  have h16 : vp_in (upd ypl r (nI P) (nI r).toNatClampNeg) 16 := by rw [e1]; exact vp_in_nI (by omega) (by decide)
  have hc : (nI P).toNatClampNeg = P := nI_clamp (by omega)
  have e2 : op (upd ypl r (nI P) (nI r).toNatClampNeg).toNatClampNeg = op P := by rw [e1, hc]
  refine br_f (nI_ge (b := 3000) hi (by decide)) (br_f (by decide) (And.intro h3 (br_f (by rw [e1]; exact nI_pos (by omega)) (And.intro h3 (br_f (by rw [e1]; exact nI_ge hP (by omega)) ?_)))))
  refine br_f (by decide) (And.intro h3 (br_f (by rw [rf_c3 hr, pk_us]; exact fun z => absurd ((nI_eq (b := 60) (by omega) (by decide)).mp z) (by omega)) (And.intro h3 ?_)))
  refine And.intro h16 (br_f (by rw [e2, ho]; decide) (And.intro h16 (br_f (by rw [e2, ho]; decide) ?_)))
  refine br_f (by decide) (And.intro h3 (br_f (by rw [rf_c3 hr, pk_us]; exact fun z => absurd ((nI_eq (b := 40) (by omega) (by decide)).mp z) (by omega)) ?_))
  refine And.intro h3 (And.intro h16 (br_f (by rw [e2, ho]; decide) ?_))
  refine yf_w5 hr hL hP ho ?_
  exact nm_e (ys_end h)
theorem ys_6 (hr : r < 3) (hL : L ≤ 16) (hP : P < L) (ha : a < 60) (hm : m < 40) (hi : i < 3000) (ho : op P = 6)
    (h : post (nI L, lk, fN, op, ya, se, upd ysa r 2, upd ypl r (nI P), upd ysp r (nI a), ra_sl 4 r g yrg, upd yrs r q, upd ywk r (fN + rm_b (se P)), upd yov r (nI m), ysg, ch, va, ra_sl 24 r t ytk)) :
    wY_goOn_4 post (nI r) (n + 2) 1 (nI i) (nI L) lk fN op ya se (upd ysa r s) (upd ypl r (nI P)) (upd ysp r (nI a)) (ra_sl 4 r g yrg) (upd yrs r q) (upd ywk r k) (upd yov r (nI m)) ysg ch va (ra_sl 24 r t ytk) := by
  have h3 := rf_in3 hr
  have e1 : upd ypl r (nI P) (nI r).toNatClampNeg = nI P := by rw [rf_c3 hr, pk_us]
  have h16 : vp_in (upd ypl r (nI P) (nI r).toNatClampNeg) 16 := by rw [e1]; exact vp_in_nI (by omega) (by decide)
  have hc : (nI P).toNatClampNeg = P := nI_clamp (by omega)
  have e2 : op (upd ypl r (nI P) (nI r).toNatClampNeg).toNatClampNeg = op P := by rw [e1, hc]
  refine br_f (nI_ge (b := 3000) hi (by decide)) (br_f (by decide) (And.intro h3 (br_f (by rw [e1]; exact nI_pos (by omega)) (And.intro h3 (br_f (by rw [e1]; exact nI_ge hP (by omega)) ?_)))))
  refine br_f (by decide) (And.intro h3 (br_f (by rw [rf_c3 hr, pk_us]; exact fun z => absurd ((nI_eq (b := 60) (by omega) (by decide)).mp z) (by omega)) (And.intro h3 ?_)))
  refine And.intro h16 (br_f (by rw [e2, ho]; decide) (And.intro h16 (br_f (by rw [e2, ho]; decide) ?_)))
  refine br_f (by decide) (And.intro h3 (br_f (by rw [rf_c3 hr, pk_us]; exact fun z => absurd ((nI_eq (b := 40) (by omega) (by decide)).mp z) (by omega)) ?_))
  refine And.intro h3 (And.intro h16 (br_f (by rw [e2, ho]; decide) ?_))
  refine yf_w6 hr hL hP ho ?_
  exact nm_e (ys_end h)
theorem ys_70 {S : Nat} (hS : S ≤ 24) (hs : ysg r = nI S) (hn : rm_no (ra_vw 24 r ch) t S (se P &&& 1)) (hr : r < 3) (hL : L ≤ 16) (hP : P < L) (ha : a < 60) (hm : m < 40) (hi : i < 3000) (ho : op P = 7)
    (h : post (nI L, lk, fN, op, ya, se, upd ysa r 3, upd ypl r (nI P), upd ysp r (nI a), ra_sl 4 r g yrg, upd yrs r q, upd ywk r k, upd yov r (nI m), ysg, ch, va, ra_sl 24 r t ytk)) :
    wY_goOn_4 post (nI r) (n + 2) 1 (nI i) (nI L) lk fN op ya se (upd ysa r s) (upd ypl r (nI P)) (upd ysp r (nI a)) (ra_sl 4 r g yrg) (upd yrs r q) (upd ywk r k) (upd yov r (nI m)) ysg ch va (ra_sl 24 r t ytk) := by
  have h3 := rf_in3 hr
  have e1 : upd ypl r (nI P) (nI r).toNatClampNeg = nI P := by rw [rf_c3 hr, pk_us]
  have h16 : vp_in (upd ypl r (nI P) (nI r).toNatClampNeg) 16 := by rw [e1]; exact vp_in_nI (by omega) (by decide)
  have hc : (nI P).toNatClampNeg = P := nI_clamp (by omega)
  have e2 : op (upd ypl r (nI P) (nI r).toNatClampNeg).toNatClampNeg = op P := by rw [e1, hc]
  refine br_f (nI_ge (b := 3000) hi (by decide)) (br_f (by decide) (And.intro h3 (br_f (by rw [e1]; exact nI_pos (by omega)) (And.intro h3 (br_f (by rw [e1]; exact nI_ge hP (by omega)) ?_)))))
  refine br_f (by decide) (And.intro h3 (br_f (by rw [rf_c3 hr, pk_us]; exact fun z => absurd ((nI_eq (b := 60) (by omega) (by decide)).mp z) (by omega)) (And.intro h3 ?_)))
  refine And.intro h16 (br_f (by rw [e2, ho]; decide) (And.intro h16 (br_f (by rw [e2, ho]; decide) ?_)))
  refine br_f (by decide) (And.intro h3 (br_f (by rw [rf_c3 hr, pk_us]; exact fun z => absurd ((nI_eq (b := 40) (by omega) (by decide)).mp z) (by omega)) ?_))
  refine And.intro h3 (And.intro h16 (br_f (by rw [e2, ho]; decide) ?_))
  refine yf_w70 hr hL hP ho hS hs hn ?_
  exact nm_e (ys_end h)
theorem ys_71 {S i0 : Nat} (hS : S ≤ 24) (hs : ysg r = nI S) (hi0 : i0 < S) (ht : t i0 = 0) (hc0 : ra_vw 24 r ch i0 = se P &&& 1) (hn : rm_no (ra_vw 24 r ch) t i0 (se P &&& 1)) (hr : r < 3) (hL : L ≤ 16) (hP : P < L) (ha : a < 60) (hm : m < 40) (hi : i < 3000) (hya : ∀ j, ya j = fi j &&& 3) (ho : op P = 7)
    (h : wY_goOn_4 post (nI r) n 1 (nI (i + 1)) (nI L) lk fN op ya se (upd ysa r 3) (upd ypl r (nI (P + 1))) (upd ysp r (nI 0)) (ra_sl 4 r (rm_wg op fi g P (ra_vw 24 r va i0)) yrg) (upd yrs r q) (upd ywk r k) (upd yov r (nI (m + 1))) ysg ch va (ra_sl 24 r (upd t i0 1) ytk)) :
    wY_goOn_4 post (nI r) (n + 1) 1 (nI i) (nI L) lk fN op ya se (upd ysa r s) (upd ypl r (nI P)) (upd ysp r (nI a)) (ra_sl 4 r g yrg) (upd yrs r q) (upd ywk r k) (upd yov r (nI m)) ysg ch va (ra_sl 24 r t ytk) := by
  have h3 := rf_in3 hr
  have e1 : upd ypl r (nI P) (nI r).toNatClampNeg = nI P := by rw [rf_c3 hr, pk_us]
  have h16 : vp_in (upd ypl r (nI P) (nI r).toNatClampNeg) 16 := by rw [e1]; exact vp_in_nI (by omega) (by decide)
  have hc : (nI P).toNatClampNeg = P := nI_clamp (by omega)
  have e2 : op (upd ypl r (nI P) (nI r).toNatClampNeg).toNatClampNeg = op P := by rw [e1, hc]
  refine br_f (nI_ge (b := 3000) hi (by decide)) (br_f (by decide) (And.intro h3 (br_f (by rw [e1]; exact nI_pos (by omega)) (And.intro h3 (br_f (by rw [e1]; exact nI_ge hP (by omega)) ?_)))))
  refine br_f (by decide) (And.intro h3 (br_f (by rw [rf_c3 hr, pk_us]; exact fun z => absurd ((nI_eq (b := 60) (by omega) (by decide)).mp z) (by omega)) (And.intro h3 ?_)))
  refine And.intro h16 (br_f (by rw [e2, ho]; decide) (And.intro h16 (br_f (by rw [e2, ho]; decide) ?_)))
  refine br_f (by decide) (And.intro h3 (br_f (by rw [rf_c3 hr, pk_us]; exact fun z => absurd ((nI_eq (b := 40) (by omega) (by decide)).mp z) (by omega)) ?_))
  refine And.intro h3 (And.intro h16 (br_f (by rw [e2, ho]; decide) ?_))
  refine yf_w71 hr hL hP hya ho hS hs hi0 ht hc0 hn ?_
  exact nm_r (e' := nI (i + 1)) (nI_1 i) h
end
end
section
section
variable {fL lk fN : Int32} {op fi se st ar es ev sg ch va tk wk kn rg pl sa rs mt ia : Nat → Int32} {ya ysa ypl ysp yrg yrs ywk yov ysg ytk : Nat → Int32} {r L S T : Nat} {x : Int32}
/-- from one config X's loop and Y's loop come to one rest -/
theorem rl_lock (hr : r < 3) (hok : rm_ok L op) (hS : S ≤ 24) (hs : sg r = nI S) (hys : ysg r = nI S) (hya : ∀ j, ya j = fi j &&& 3) (hT : T < 1000000) :
    ∀ (d : Nat) (g t e : Nat → Int32) (p : Int32) (a m i i' j : Nat) (yk ys : Int32), rm_R L op fi se x e j g p a m → 2460 ≤ 60 * m + a + d → i + d ≤ 2500 → i' + d ≤ 2500 →
    ∃ (g' t' e' : Nat → Int32) (p' : Int32) (a' m' j' : Nat) (k' yk' s' q' : Int32), rm_R L op fi se x e' j' g' p' a' m' ∧ rm_F L op fi se (ra_vw 24 r ch) t' S g' p' a' m' s' q' ∧
      ((s' = 2 ∧ ¬ k' ≤ 0 ∧ yk' = k') ∨ (s' ≠ 2 ∧ k' = 0)) ∧
      (∀ (post : SX → Prop) (n : Nat), d + 2 ≤ n → post (nI L, lk, nI T, op, fi, se, st, ar, upd es r (nI m'), ra_sl 40 r e' ev, sg, ch, va, ra_sl 24 r t' tk, upd wk r k', kn, ra_sl 4 r g' rg, upd pl r p', upd sa r s', upd rs r q', upd mt r (nI m'), upd ia r (nI a')) → wX_carryOn_20 post (nI r) n (nI i) (nI L) lk (nI T) op fi se st ar (upd es r (nI m)) (ra_sl 40 r e ev) sg ch va (ra_sl 24 r t tk) (upd wk r 0) kn (ra_sl 4 r g rg) (upd pl r p) (upd sa r (rm_s L p a)) (upd rs r 0) (upd mt r (nI m)) (upd ia r (nI a))) ∧
      (∀ (post : SY → Prop) (n : Nat), d + 2 ≤ n → post (nI L, lk, nI T, op, ya, se, upd ysa r s', upd ypl r p', upd ysp r (nI a'), ra_sl 4 r g' yrg, upd yrs r q', upd ywk r yk', upd yov r (nI m'), ysg, ch, va, ra_sl 24 r t' ytk) → wY_goOn_4 post (nI r) n 1 (nI i') (nI L) lk (nI T) op ya se (upd ysa r ys) (upd ypl r p) (upd ysp r (nI a)) (ra_sl 4 r g yrg) (upd yrs r 0) (upd ywk r yk) (upd yov r (nI m)) ysg ch va (ra_sl 24 r t ytk)) := by
  intro d
  induction d using Nat.strongRecOn with
  | ind d ih =>
    intro g t e p a m i i' j yk ys hR hd hi hi'
    have hb := rm_bnd hR
    have ended : ∀ q : Int32, rm_E L op fi g p a m q → ∃ (g' t' e' : Nat → Int32) (p' : Int32) (a' m' j' : Nat) (k' yk' s' q' : Int32), rm_R L op fi se x e' j' g' p' a' m' ∧ rm_F L op fi se (ra_vw 24 r ch) t' S g' p' a' m' s' q' ∧
      ((s' = 2 ∧ ¬ k' ≤ 0 ∧ yk' = k') ∨ (s' ≠ 2 ∧ k' = 0)) ∧
      (∀ (post : SX → Prop) (n : Nat), d + 2 ≤ n → post (nI L, lk, nI T, op, fi, se, st, ar, upd es r (nI m'), ra_sl 40 r e' ev, sg, ch, va, ra_sl 24 r t' tk, upd wk r k', kn, ra_sl 4 r g' rg, upd pl r p', upd sa r s', upd rs r q', upd mt r (nI m'), upd ia r (nI a')) → wX_carryOn_20 post (nI r) n (nI i) (nI L) lk (nI T) op fi se st ar (upd es r (nI m)) (ra_sl 40 r e ev) sg ch va (ra_sl 24 r t tk) (upd wk r 0) kn (ra_sl 4 r g rg) (upd pl r p) (upd sa r (rm_s L p a)) (upd rs r 0) (upd mt r (nI m)) (upd ia r (nI a))) ∧
      (∀ (post : SY → Prop) (n : Nat), d + 2 ≤ n → post (nI L, lk, nI T, op, ya, se, upd ysa r s', upd ypl r p', upd ysp r (nI a'), ra_sl 4 r g' yrg, upd yrs r q', upd ywk r yk', upd yov r (nI m'), ysg, ch, va, ra_sl 24 r t' ytk) → wY_goOn_4 post (nI r) n 1 (nI i') (nI L) lk (nI T) op ya se (upd ysa r ys) (upd ypl r p) (upd ysp r (nI a)) (ra_sl 4 r g yrg) (upd yrs r 0) (upd ywk r yk) (upd yov r (nI m)) ysg ch va (ra_sl 24 r t ytk)) := by
      intro q hE
      refine ⟨g, t, e, p, a, m, j, 0, yk, 4, q, hR, Or.inl ⟨rfl, hE⟩, Or.inr ⟨by decide, rfl⟩, fun post n hn hp => ?_, fun post n hn hp => ?_⟩
      · obtain ⟨n, rfl⟩ : ∃ k, n = k + 2 := ⟨n - 2, by omega⟩
        exact xs_E hr hok (by omega) hb.2.1 hE hp
      · obtain ⟨n, rfl⟩ : ∃ k, n = k + 2 := ⟨n - 2, by omega⟩
        exact ys_E hr hok (by omega) hya hE hp
    have hL := hok.1
    rcases pk_ix p (n := L) (by omega) with c | c | ⟨P, hP, rfl⟩
    · exact ended 0 (Or.inl ⟨Or.inl c, rfl⟩)
    · exact ended 0 (Or.inl ⟨Or.inr (Or.inl c), rfl⟩)
    by_cases ha : a = 60
    · exact ended 0 (Or.inl ⟨Or.inr (Or.inr ha), rfl⟩)
    replace ha : a < 60 := by omega
    rcases hok.2 P hP with ho | ho | ho
    · obtain ⟨g', t', e', p', a', m', j', k', yk', s', q', hR', hF, hk, hX, hY⟩ := ih (d - 1) (by omega) (rm_g op fi se g P) t e (rm_p op fi se g P) (a + 1) m (i + 1) (i' + 1) (j + 1) yk ys (rm_Rp hR hP ha ho) (by omega) (by omega) (by omega)
      refine ⟨g', t', e', p', a', m', j', k', yk', s', q', hR', hF, hk, fun post n hn hp => ?_, fun post n hn hp => ?_⟩
      · obtain ⟨n, rfl⟩ : ∃ k, n = k + 1 := ⟨n - 1, by omega⟩
        rw [rm_sin hL hP ha]
        exact xs_plain hr hL hP ha (by omega) ho (hX post n (by omega) hp)
      · obtain ⟨n, rfl⟩ : ∃ k, n = k + 1 := ⟨n - 1, by omega⟩
        exact ys_plain hr hL hP ha (by omega) hya ho (hY post n (by omega) hp)
    · by_cases hm : m = 40
      · exact ended 0 (Or.inr ⟨P, hP, rfl, ha, Or.inl ⟨ho, hm, rfl⟩⟩)
      replace hm : m < 40 := by omega
      rcases ho with o | o | o
      · refine ⟨g, t, e, nI P, a, m, j, 0, yk, 1, 0, hR, Or.inr ⟨P, hP, rfl, ha, hm, rfl, Or.inl ⟨o, rfl⟩⟩, Or.inr ⟨by decide, rfl⟩, fun post n hn hp => ?_, fun post n hn hp => ?_⟩
        · obtain ⟨n, rfl⟩ : ∃ k, n = k + 2 := ⟨n - 2, by omega⟩
          rw [rm_sin hL hP ha]
          exact xs_5 hr hL (by omega) hP hm o hp
        · obtain ⟨n, rfl⟩ : ∃ k, n = k + 2 := ⟨n - 2, by omega⟩
          exact ys_5 hr hL hP ha hm (by omega) o hp
      · refine ⟨g, t, e, nI P, a, m, j, nI T + rm_b (se P), nI T + rm_b (se P), 2, 0, hR, Or.inr ⟨P, hP, rfl, ha, hm, rfl, Or.inr (Or.inl ⟨o, rfl⟩)⟩, Or.inl ⟨rfl, rm_bp hT _, rfl⟩, fun post n hn hp => ?_, fun post n hn hp => ?_⟩
        · obtain ⟨n, rfl⟩ : ∃ k, n = k + 2 := ⟨n - 2, by omega⟩
          rw [rm_sin hL hP ha]
          exact xs_60 hr hL (by omega) hP hm o hp
        · obtain ⟨n, rfl⟩ : ∃ k, n = k + 2 := ⟨n - 2, by omega⟩
          exact ys_6 hr hL hP ha hm (by omega) o hp
      · rcases rm_sig (ra_vw 24 r ch) t (se P &&& 1) S with hn0 | ⟨i0, hi0, ht, hc0, hn0⟩
        · refine ⟨g, t, e, nI P, a, m, j, 0, yk, 3, 0, hR, Or.inr ⟨P, hP, rfl, ha, hm, rfl, Or.inr (Or.inr ⟨o, rfl, hn0⟩)⟩, Or.inr ⟨by decide, rfl⟩, fun post n hn hp => ?_, fun post n hn hp => ?_⟩
          · obtain ⟨n, rfl⟩ : ∃ k, n = k + 2 := ⟨n - 2, by omega⟩
            rw [rm_sin hL hP ha]
            exact xs_7 hr hL (by omega) hP hm o hS hs hn0 hp
          · obtain ⟨n, rfl⟩ : ∃ k, n = k + 2 := ⟨n - 2, by omega⟩
            exact ys_70 hS hys hn0 hr hL hP ha hm (by omega) o hp
        · have hR2 : rm_R L op fi se x (upd e m (ra_vw 24 r va i0)) j g (nI P) a m := rm_cong (fun q hq => pk_un (by omega)) hR
          obtain ⟨g', t', e', p', a', m', j', k', yk', s', q', hR', hF, hk, hX, hY⟩ := ih (d - 1) (by omega) (rm_wg op fi g P (ra_vw 24 r va i0)) (upd t i0 1) (upd e m (ra_vw 24 r va i0)) (nI (P + 1)) 0 (m + 1) (i + 1) (i' + 1) (j + 1) yk 3 (rm_Rw hR2 hP ha (Or.inr (Or.inr o)) hm pk_us) (by omega) (by omega) (by omega)
          refine ⟨g', t', e', p', a', m', j', k', yk', s', q', hR', hF, hk, fun post n hn hp => ?_, fun post n hn hp => ?_⟩
          · obtain ⟨n, rfl⟩ : ∃ k, n = k + 1 := ⟨n - 1, by omega⟩
            rw [rm_sin hL hP ha]
            exact xs_sig hr hm hL hP o (by omega) hS hs hi0 ht hc0 hn0 (hX post n (by omega) hp)
          · obtain ⟨n, rfl⟩ : ∃ k, n = k + 1 := ⟨n - 1, by omega⟩
            exact ys_71 hS hys hi0 ht hc0 hn0 hr hL hP ha hm (by omega) hya o (hY post n (by omega) hp)
    · exact ended (g (rf_3 (fi P))) (Or.inr ⟨P, hP, rfl, ha, Or.inr ⟨ho, rfl⟩⟩)
end
section
variable {fL lk fN : Int32} {op fi se st ar es ev sg ch va tk wk kn rg pl sa rs mt ia : Nat → Int32} {r L S : Nat} {x k : Int32} {post : SX → Prop} {t e : Nat → Int32}
/-- the replay: from the start along the history -/
theorem rl_chain {N : Nat} (hr : r < 3) (hok : rm_ok L op) (hN : N ≤ 40) : ∀ (j : Nat) (g : Nat → Int32) (p : Int32) (a m n : Nat), rm_R L op fi se x e j g p a m → m ≤ N →
    wX_carryOn_20 post (nI r) n (nI j) (nI L) lk fN op fi se st ar (upd es r (nI N)) (ra_sl 40 r e ev) sg ch va (ra_sl 24 r t tk) (upd wk r k) kn (ra_sl 4 r g rg) (upd pl r p) (upd sa r (rm_s L p a)) (upd rs r 0) (upd mt r (nI m)) (upd ia r (nI a)) →
    wX_carryOn_20 post (nI r) (n + j) (nI 0) (nI L) lk fN op fi se st ar (upd es r (nI N)) (ra_sl 40 r e ev) sg ch va (ra_sl 24 r t tk) (upd wk r k) kn (ra_sl 4 r (upd (fun _ => 0) 0 x) rg) (upd pl r 0) (upd sa r (rm_s L 0 0)) (upd rs r 0) (upd mt r (nI 0)) (upd ia r (nI 0)) := by
  intro j
  induction j with
  | zero =>
    intro g p a m n h hm hp
    obtain ⟨rfl, rfl, rfl, rfl⟩ := h
    exact hp
  | succ j ih =>
    intro g p a m n h hm hp
    have hb := rm_bnd h
    have hL := hok.1
    obtain ⟨g0, P, a0, m0, h0, hP, ha, h1 | h1⟩ := h
    · obtain ⟨c, rfl, rfl, rfl, rfl⟩ := h1
      have hb0 := rm_bnd h0
      rw [show n + (j + 1) = (n + 1) + j by omega]
      refine ih g0 (nI P) a0 m (n + 1) h0 hm ?_
      rw [rm_sin hL hP ha]
      exact xs_plain hr hL hP ha (by omega) c hp
    · obtain ⟨c, hm4, rfl, rfl, rfl, rfl⟩ := h1
      have hb0 := rm_bnd h0
      rw [show n + (j + 1) = (n + 1) + j by omega]
      refine ih g0 (nI P) a0 m0 (n + 1) h0 (by omega) ?_
      rw [rm_sin hL hP ha]
      exact xs_wait hr hL hP (by omega) hN (by omega) c hp
theorem rl_rest {g : Nat → Int32} {p s q : Int32} {a m n i : Nat} (hr : r < 3) (hok : rm_ok L op) (hi : i < 2600) (ha : a ≤ 60) (hS : S ≤ 24) (hs : sg r = nI S)
    (hF : rm_F L op fi se (ra_vw 24 r ch) t S g p a m s q) (hk : s = 2 → ¬ k ≤ 0)
    (hp : post (nI L, lk, fN, op, fi, se, st, ar, upd es r (nI m), ra_sl 40 r e ev, sg, ch, va, ra_sl 24 r t tk, upd wk r k, kn, ra_sl 4 r g rg, upd pl r p, upd sa r s, upd rs r q, upd mt r (nI m), upd ia r (nI a))) :
    wX_carryOn_20 post (nI r) (n + 2) (nI i) (nI L) lk fN op fi se st ar (upd es r (nI m)) (ra_sl 40 r e ev) sg ch va (ra_sl 24 r t tk) (upd wk r k) kn (ra_sl 4 r g rg) (upd pl r p) (upd sa r (rm_s L p a)) (upd rs r 0) (upd mt r (nI m)) (upd ia r (nI a)) := by
  have hL := hok.1
  rcases hF with ⟨rfl, hE⟩ | ⟨P, hP, rfl, ha, hm, rfl, ⟨o, rfl⟩ | ⟨o, rfl⟩ | ⟨o, rfl, hn⟩⟩
  · exact xs_E hr hok hi ha hE hp
  · rw [rm_sin hL hP ha]
    exact xs_5 hr hL hi hP hm o hp
  · rw [rm_sin hL hP ha]
    exact xs_61 hr hL hi hP hm o (hk rfl) hp
  · rw [rm_sin hL hP ha]
    exact xs_7 hr hL hi hP hm o hS hs hn hp
theorem rl_replay {g : Nat → Int32} {p s q : Int32} {a m j : Nat} (hr : r < 3) (hok : rm_ok L op) (hS : S ≤ 24) (hs : sg r = nI S)
    (hR : rm_R L op fi se x e j g p a m) (hF : rm_F L op fi se (ra_vw 24 r ch) t S g p a m s q) (hk : s = 2 → ¬ k ≤ 0)
    (hp : post (nI L, lk, fN, op, fi, se, st, ar, upd es r (nI m), ra_sl 40 r e ev, sg, ch, va, ra_sl 24 r t tk, upd wk r k, kn, ra_sl 4 r g rg, upd pl r p, upd sa r s, upd rs r q, upd mt r (nI m), upd ia r (nI a))) :
    ∃ n, wX_carryOn_20 post (nI r) n (nI 0) (nI L) lk fN op fi se st ar (upd es r (nI m)) (ra_sl 40 r e ev) sg ch va (ra_sl 24 r t tk) (upd wk r k) kn (ra_sl 4 r (upd (fun _ => 0) 0 x) rg) (upd pl r 0) (upd sa r (rm_s L 0 0)) (upd rs r 0) (upd mt r (nI 0)) (upd ia r (nI 0)) := by
  have hb := rm_bnd hR
  exact ⟨0 + 2 + j, rl_chain hr hok hb.2.2 j g p a m (0 + 2) hR (Nat.le_refl m) (rl_rest hr hok (by omega) hb.2.1 hS hs hF hk hp)⟩
end
end
section
theorem rf_4k (r q : Nat) : nI r * 4 + nI q = nI (4 * r + q) := by rw [rf_4, nI_add]
section
variable {fL lk fN : Int32} {op fi se st ar es ev sg ch va tk wk kn rg pl sa rs mt ia : Nat → Int32} {r L : Nat} {post : SX → Prop}
theorem xf_carry {p : Int32} (hr : r < 3) (h : ∃ n, wX_carryOn_20 post (nI r) n 0 (nI L) lk fN op fi se st ar es ev sg ch va tk wk kn rg (upd pl r p) (upd sa r (rm_t L p 5)) (upd rs r 0) mt ia) :
    wpX_carryOn post (nI L, lk, fN, op, fi, se, st, ar, es, ev, sg, ch, va, tk, wk, kn, rg, upd pl r p, sa, upd rs r 0, mt, ia) (nI r) := by
  have h3 := rf_in3 hr
  have e1 : upd pl r p (nI r).toNatClampNeg = p := by rw [rf_c3 hr, pk_us]
  refine And.intro h3 (nm_r (e' := upd sa r 5) (by rw [rf_c3 hr]) (And.intro h3 ?_))
  rw [e1]
  refine xf_goTo hr ?_
  exact h
/-- a run that rests is carried on: no event is there -/
theorem xf_carry0 {g t e : Nat → Int32} {p k s : Int32} {a m N : Nat} (u' : SX) (hr : r < 3) (ha : a < 60)
    (hX : ∀ Q : SX → Prop, Q u' → ∃ n, wX_carryOn_20 Q (nI r) n 0 (nI L) lk fN op fi se st ar (upd es r (nI N)) (ra_sl 40 r e ev) sg ch va (ra_sl 24 r t tk) (upd wk r k) kn (ra_sl 4 r g rg) (upd pl r p) (upd sa r (rm_s L p a)) (upd rs r 0) (upd mt r (nI m)) (upd ia r (nI a))) (hp : post u') :
    wpX_carryOn post (nI L, lk, fN, op, fi, se, st, ar, upd es r (nI N), ra_sl 40 r e ev, sg, ch, va, ra_sl 24 r t tk, upd wk r k, kn, ra_sl 4 r g rg, upd pl r p, upd sa r s, upd rs r 0, upd mt r (nI m), upd ia r (nI a)) (nI r) := by
  refine xf_carry hr ?_
  rw [ra_uu, rm_ts ha]
  exact hX _ hp
/-- .. an event is there -/
theorem xf_carryW {g t e : Nat → Int32} {k s : Int32} {P a m N : Nat} (u' : SX) (hr : r < 3) (hL : L ≤ 16) (hP : P < L) (hm : m < N) (hN : N ≤ 40) (ho : rm_wt (op P))
    (hX : ∀ Q : SX → Prop, Q u' → ∃ n, wX_carryOn_20 Q (nI r) n (nI 1) (nI L) lk fN op fi se st ar (upd es r (nI N)) (ra_sl 40 r e ev) sg ch va (ra_sl 24 r t tk) (upd wk r k) kn (ra_sl 4 r (rm_wg op fi g P (e m)) rg) (upd pl r (nI (P + 1))) (upd sa r (rm_s L (nI (P + 1)) 0)) (upd rs r 0) (upd mt r (nI (m + 1))) (upd ia r (nI 0))) (hp : post u') :
    wpX_carryOn post (nI L, lk, fN, op, fi, se, st, ar, upd es r (nI N), ra_sl 40 r e ev, sg, ch, va, ra_sl 24 r t tk, upd wk r k, kn, ra_sl 4 r g rg, upd pl r (nI P), upd sa r s, upd rs r 0, upd mt r (nI m), upd ia r (nI a)) (nI r) := by
  refine xf_carry hr ?_
  rw [ra_uu, rm_tin hL hP]
  obtain ⟨n, hn⟩ := hX _ hp
  exact ⟨n + 1, xs_wait (i := 0) hr hL hP hm hN (by omega) ho hn⟩
theorem xf_begin {x : Int32} (u' : SX) (hr : r < 3) (har : ar r = x)
    (hX : ∀ Q : SX → Prop, Q u' → ∃ n, wX_carryOn_20 Q (nI r) n 0 (nI L) lk fN op fi se st ar es ev sg ch va tk wk (upd kn r 1) (ra_sl 4 r (upd (fun _ => 0) 0 x) rg) (upd pl r 0) (upd sa r (rm_s L 0 0)) (upd rs r 0) (upd mt r (nI 0)) (upd ia r (nI 0))) (hp : post u') :
    wpX_begin post (nI L, lk, fN, op, fi, se, st, ar, es, ev, sg, ch, va, tk, wk, kn, rg, pl, sa, rs, mt, ia) (nI r) := by
  obtain ⟨z1, z2, z3, z4, z5, z6, z7, z8, z9, z10, z11, z12, z13, z14, z15, z16, z17, z18, z19, z20, z21, z22⟩ := u'
  have h3 := rf_in3 hr
  have i0 : nI r * 4 + (0 : Int32) = nI (4 * r + 0) := rf_4k r 0
  have i1 : nI r * 4 + (1 : Int32) = nI (4 * r + 1) := rf_4k r 1
  have i2 : nI r * 4 + (2 : Int32) = nI (4 * r + 2) := rf_4k r 2
  have i3 : nI r * 4 + (3 : Int32) = nI (4 * r + 3) := rf_4k r 3
  refine And.intro h3 (nm_r (e' := upd kn r 1) (by rw [rf_c3 hr]; rfl) (Exists.intro 5 ?_))
  refine br_f (by decide) (And.intro (by rw [i0]; exact vp_in_nI (by omega) (by decide)) (nm_r (e' := upd rg (4 * r + 0) 0) (by rw [i0, nI_clamp (by omega)]) (nm_r (e' := 1) (by decide) ?_)))
  refine br_f (by decide) (And.intro (by rw [i1]; exact vp_in_nI (by omega) (by decide)) (nm_r (e' := upd (upd rg (4 * r + 0) 0) (4 * r + 1) 0) (by rw [i1, nI_clamp (by omega)]) (nm_r (e' := 2) (by decide) ?_)))
  refine br_f (by decide) (And.intro (by rw [i2]; exact vp_in_nI (by omega) (by decide)) (nm_r (e' := upd (upd (upd rg (4 * r + 0) 0) (4 * r + 1) 0) (4 * r + 2) 0) (by rw [i2, nI_clamp (by omega)]) (nm_r (e' := 3) (by decide) ?_)))
  refine br_f (by decide) (And.intro (by rw [i3]; exact vp_in_nI (by omega) (by decide)) (nm_r (e' := ra_sl 4 r (fun _ => 0) rg) (by rw [i3, nI_clamp (by omega), ra_z4]) (nm_r (e' := 4) (by decide) ?_)))
  refine br_t (by decide) (And.intro h3 (And.intro (by rw [rf_4]; exact vp_in_nI (by omega) (by decide)) (nm_r (e' := ra_sl 4 r (upd (fun _ => 0) 0 x) rg) (by rw [rf_4, nI_clamp (by omega), rf_c3 hr, har]; exact ra_slu (q := 0) (by omega)) (And.intro h3 (nm_r (e' := upd pl r 0) (by rw [rf_c3 hr]) (And.intro h3 (nm_r (e' := upd rs r 0) (by rw [rf_c3 hr]) (And.intro h3 (nm_r (e' := upd mt r (nI 0)) (by rw [rf_c3 hr]; rfl) (And.intro h3 (nm_r (e' := upd ia r (nI 0)) (by rw [rf_c3 hr]; rfl) ?_)))))))))))
  refine xf_carry hr ?_
  rw [rm_ts (a := 0) (by omega)]
  exact hX _ hp
theorem xf_rem1 (hr : r < 3) (hst : st r ≠ 0) (hkn : kn r ≠ 0) (hp : post (fL, lk, fN, op, fi, se, st, ar, es, ev, sg, ch, va, tk, wk, kn, rg, pl, sa, rs, mt, ia)) : wpX_remember post (fL, lk, fN, op, fi, se, st, ar, es, ev, sg, ch, va, tk, wk, kn, rg, pl, sa, rs, mt, ia) (nI r) := by
  have h3 := rf_in3 hr
  exact And.intro h3 (br_f (by rw [rf_c3 hr]; exact hst) (And.intro h3 (br_f (by rw [rf_c3 hr]; exact hkn) hp)))
theorem xf_rem0 {S : Nat} {g : Nat → Int32} {p s q : Int32} {a m j : Nat} (hr : r < 3) (hst : st r ≠ 0) (hkn : kn r = 0) (hok : rm_ok L op) (hS : S ≤ 24) (hs : sg r = nI S) (hes : es r = nI m)
    (hR : rm_R L op fi se (ar r) (ra_vw 40 r ev) j g p a m) (hF : rm_F L op fi se (ra_vw 24 r ch) (ra_vw 24 r tk) S g p a m s q) (hk : s = 2 → ¬ wk r ≤ 0)
    (hp : post (nI L, lk, fN, op, fi, se, st, ar, upd es r (nI m), ra_sl 40 r (ra_vw 40 r ev) ev, sg, ch, va, ra_sl 24 r (ra_vw 24 r tk) tk, upd wk r (wk r), upd kn r 1, ra_sl 4 r g rg, upd pl r p, upd sa r s, upd rs r q, upd mt r (nI m), upd ia r (nI a))) : wpX_remember post (nI L, lk, fN, op, fi, se, st, ar, es, ev, sg, ch, va, tk, wk, kn, rg, pl, sa, rs, mt, ia) (nI r) := by
  have h3 := rf_in3 hr
  refine And.intro h3 (br_f (by rw [rf_c3 hr]; exact hst) (And.intro h3 (br_t (by rw [rf_c3 hr]; exact hkn) ?_)))
  refine xf_begin (nI L, lk, fN, op, fi, se, st, ar, upd es r (nI m), ra_sl 40 r (ra_vw 40 r ev) ev, sg, ch, va, ra_sl 24 r (ra_vw 24 r tk) tk, upd wk r (wk r), upd kn r 1, ra_sl 4 r g rg, upd pl r p, upd sa r s, upd rs r q, upd mt r (nI m), upd ia r (nI a)) hr rfl ?_ hp
  intro Q hQ
  have h := rl_replay (post := Q) (kn := upd kn r 1) (rg := rg) (pl := pl) (sa := sa) (rs := rs) (mt := mt) (ia := ia) hr hok hS hs hR hF hk hQ
  rw [ra_slv, ra_slv, ra_ue hes, ra_ue (show wk r = wk r from rfl)] at h
  exact h
end
section
variable {fL lk fN : Int32} {op fi se st ar es ev sg ch va tk wk kn rg pl sa rs mt ia : Nat → Int32} {r L : Nat} {post : Int32 → SX → Prop}
theorem xf_st0 (hr : r < 3) (hst : st r = 0) (hp : post 0 (fL, lk, fN, op, fi, se, st, ar, es, ev, sg, ch, va, tk, wk, kn, rg, pl, sa, rs, mt, ia)) : wpX_stateOf post (fL, lk, fN, op, fi, se, st, ar, es, ev, sg, ch, va, tk, wk, kn, rg, pl, sa, rs, mt, ia) (nI r) :=
  And.intro (rf_in3 hr) (br_t (by rw [rf_c3 hr]; exact hst) hp)
theorem xf_st1 {s z1 z2 z3 : Int32} {z4 z5 z6 z7 z8 z9 z10 z11 z12 z13 z14 z15 z16 z17 z18 z19 z20 z21 z22 : Nat → Int32} (hr : r < 3) (hst : st r ≠ 0)
    (h : ∀ Q : SX → Prop, Q (z1, z2, z3, z4, z5, z6, z7, z8, z9, z10, z11, z12, z13, z14, z15, z16, z17, z18, upd z19 r s, z20, z21, z22) → wpX_remember Q (fL, lk, fN, op, fi, se, st, ar, es, ev, sg, ch, va, tk, wk, kn, rg, pl, sa, rs, mt, ia) (nI r))
    (hp : post s (z1, z2, z3, z4, z5, z6, z7, z8, z9, z10, z11, z12, z13, z14, z15, z16, z17, z18, upd z19 r s, z20, z21, z22)) : wpX_stateOf post (fL, lk, fN, op, fi, se, st, ar, es, ev, sg, ch, va, tk, wk, kn, rg, pl, sa, rs, mt, ia) (nI r) := by
  refine And.intro (rf_in3 hr) (br_f (by rw [rf_c3 hr]; exact hst) ?_)
  refine h _ (And.intro (rf_in3 hr) ?_)
  rw [rf_c3 hr, pk_us]
  exact hp
end
section
variable {post : Int32 → Prop} {r : Nat} {v : Int32}
theorem xf_bad (h : v < 0 ∨ nI 3 ≤ v) (hp : post 1) : wpX_badRun post v := by
  by_cases c : v < 0
  · exact br_t c hp
  · exact br_f c (br_f (Int32.not_lt.mpr (h.elim (fun z => absurd z c) id)) hp)
theorem xf_good (hr : r < 3) (hp : post 0) : wpX_badRun post (nI r) :=
  br_f (nI_pos (by omega)) (br_t (nI_lt (b := 3) hr (by decide)) hp)
theorem yf_bad {u : SY} (h : v < 0 ∨ nI 3 ≤ v) (hp : post 0) : wpY_isRun post u v := by
  obtain ⟨z1, z2, z3, z4, z5, z6, z7, z8, z9, z10, z11, z12, z13, z14, z15, z16, z17⟩ := u
  by_cases c : v < 0
  · exact br_t c hp
  · exact br_f c (br_t (h.elim (fun z => absurd z c) id) hp)
theorem yf_good {u : SY} (hr : r < 3) (hp : post 1) : wpY_isRun post u (nI r) := by
  obtain ⟨z1, z2, z3, z4, z5, z6, z7, z8, z9, z10, z11, z12, z13, z14, z15, z16, z17⟩ := u
  exact br_f (nI_pos (by omega)) (br_f (nI_ge (b := 3) hr (by decide)) hp)
end
end
section
/-- one run of both objects -/
def rr_run (L : Nat) (lk : Int32) (op fi se : Nat → Int32) (st ar es sg wk kn pl sa rs mt ia : Int32) (ev ch tk rg : Nat → Int32) (ysa ypl ysp yrs ywk yov ysg : Int32) (yrg : Nat → Int32) : Prop :=
  (st = 0 ∧ ysa = 0 ∧ sg = 0 ∧ ∃ S : Nat, S ≤ 24 ∧ ysg = nI S) ∨
  (st ≠ 0 ∧ lk ≠ 0 ∧ ysg = sg ∧ ∃ (g : Nat → Int32) (p : Int32) (a m j S : Nat) (s q : Int32), S ≤ 24 ∧ sg = nI S ∧ rm_R L op fi se ar ev j g p a m ∧ rm_F L op fi se ch tk S g p a m s q ∧ es = nI m ∧
    ysa = s ∧ yrs = q ∧ ypl = p ∧ ysp = nI a ∧ yov = nI m ∧ (∀ i, i < 4 → yrg i = g i) ∧
    (kn ≠ 0 → sa = s ∧ rs = q ∧ pl = p ∧ mt = nI m ∧ ia = nI a ∧ (∀ i, i < 4 → rg i = g i)) ∧
    ((s = 2 ∧ ¬ wk ≤ 0 ∧ ywk = wk) ∨ (s ≠ 2 ∧ wk = 0)))
/-- the relation at the head of a turn whose first cell is k -/
def i_Rel (k : Nat) (u : SX) (v : SY) : Prop := match u with
  | (fL, lk, fN, op, fi, se, st, ar, es, ev, sg, ch, va, tk, wk, kn, rg, pl, sa, rs, mt, ia) => match v with
    | (gL, glk, gN, yop, ya, yse, ysa, ypl, ysp, yrg, yrs, ywk, yov, ysg, ych, yva, ytk) =>
      gL = fL ∧ glk = lk ∧ gN = fN ∧ yop = op ∧ yse = se ∧ ych = ch ∧ yva = va ∧ ytk = tk ∧ (∀ j, ya j = fi j &&& 3) ∧ ∃ L T : Nat, fL = nI L ∧ rm_ok L op ∧ fN = nI T ∧ T ≤ 250 * k ∧ ∀ r, r < 3 → rr_run L lk op fi se (st r) (ar r) (es r) (sg r) (wk r) (kn r) (pl r) (sa r) (rs r) (mt r) (ia r) (ra_vw 40 r ev) (ra_vw 24 r ch) (ra_vw 24 r tk) (ra_vw 4 r rg) (ysa r) (ypl r) (ysp r) (yrs r) (ywk r) (yov r) (ysg r) (ra_vw 4 r yrg)
theorem i_up {k : Nat} {u : SX} {v : SY} (h : i_Rel k u v) : i_Rel (k + 4) u v := by
  obtain ⟨z1, z2, z3, z4, z5, z6, z7, z8, z9, z10, z11, z12, z13, z14, z15, z16, z17, z18, z19, z20, z21, z22⟩ := u
  obtain ⟨y1, y2, y3, y4, y5, y6, y7, y8, y9, y10, y11, y12, y13, y14, y15, y16, y17⟩ := v
  obtain ⟨h1, h2, h3, h4, h5, h6, h7, h8, h9, L, T, hL, hok, hT, hb, hA⟩ := h
  exact And.intro h1 (And.intro h2 (And.intro h3 (And.intro h4 (And.intro h5 (And.intro h6 (And.intro h7 (And.intro h8 (And.intro h9 (Exists.intro L (Exists.intro T (And.intro hL (And.intro hok (And.intro hT (And.intro (by omega) hA))))))))))))))
theorem rr_el {k : Nat} {u : SX} {v : SY} {P : SX → SY → Prop}
    (h : ∀ (L T : Nat) (lk : Int32) (op fi se st ar es ev sg ch va tk wk kn rg pl sa rs mt ia ya ysa ypl ysp yrg yrs ywk yov ysg : Nat → Int32), rm_ok L op → T ≤ 250 * k → (∀ j, ya j = fi j &&& 3) → (∀ r, r < 3 → rr_run L lk op fi se (st r) (ar r) (es r) (sg r) (wk r) (kn r) (pl r) (sa r) (rs r) (mt r) (ia r) (ra_vw 40 r ev) (ra_vw 24 r ch) (ra_vw 24 r tk) (ra_vw 4 r rg) (ysa r) (ypl r) (ysp r) (yrs r) (ywk r) (yov r) (ysg r) (ra_vw 4 r yrg)) → P (nI L, lk, nI T, op, fi, se, st, ar, es, ev, sg, ch, va, tk, wk, kn, rg, pl, sa, rs, mt, ia) (nI L, lk, nI T, op, ya, se, ysa, ypl, ysp, yrg, yrs, ywk, yov, ysg, ch, va, tk))
    (I : i_Rel k u v) : P u v := by
  obtain ⟨z1, z2, z3, z4, z5, z6, z7, z8, z9, z10, z11, z12, z13, z14, z15, z16, z17, z18, z19, z20, z21, z22⟩ := u
  obtain ⟨y1, y2, y3, y4, y5, y6, y7, y8, y9, y10, y11, y12, y13, y14, y15, y16, y17⟩ := v
  obtain ⟨h1, h2, h3, h4, h5, h6, h7, h8, h9, L, T, hL, hok, hT, hb, hA⟩ := I
  subst h1 h2 h3 h4 h5 h6 h7 h8
  subst hL hT
  exact h L T _ _ _ _ _ _ _ _ _ _ _ _ _ _ _ _ _ _ _ _ _ _ _ _ _ _ _ _ _ hok hb h9 hA
section
variable {k L T r : Nat} {fL lk fN : Int32} {op fi se st ar es ev sg ch va tk wk kn rg pl sa rs mt ia : Nat → Int32} {ya ysa ypl ysp yrg yrs ywk yov ysg ytk : Nat → Int32}
theorem rr_in (hok : rm_ok L op) (hT : T ≤ 250 * k) (hya : ∀ j, ya j = fi j &&& 3) (hA : ∀ r, r < 3 → rr_run L lk op fi se (st r) (ar r) (es r) (sg r) (wk r) (kn r) (pl r) (sa r) (rs r) (mt r) (ia r) (ra_vw 40 r ev) (ra_vw 24 r ch) (ra_vw 24 r tk) (ra_vw 4 r rg) (ysa r) (ypl r) (ysp r) (yrs r) (ywk r) (yov r) (ysg r) (ra_vw 4 r yrg)) : i_Rel k (nI L, lk, nI T, op, fi, se, st, ar, es, ev, sg, ch, va, tk, wk, kn, rg, pl, sa, rs, mt, ia) (nI L, lk, nI T, op, ya, se, ysa, ypl, ysp, yrg, yrs, ywk, yov, ysg, ch, va, tk) :=
  And.intro rfl (And.intro rfl (And.intro rfl (And.intro rfl (And.intro rfl (And.intro rfl (And.intro rfl (And.intro rfl (And.intro hya (Exists.intro L (Exists.intro T (And.intro rfl (And.intro hok (And.intro rfl (And.intro hT hA))))))))))))))
theorem rr_lk {lk' : Int32} (h : rr_run L lk op fi se (st r) (ar r) (es r) (sg r) (wk r) (kn r) (pl r) (sa r) (rs r) (mt r) (ia r) (ra_vw 40 r ev) (ra_vw 24 r ch) (ra_vw 24 r tk) (ra_vw 4 r rg) (ysa r) (ypl r) (ysp r) (yrs r) (ywk r) (yov r) (ysg r) (ra_vw 4 r yrg)) (hl : lk' ≠ 0) : rr_run L lk' op fi se (st r) (ar r) (es r) (sg r) (wk r) (kn r) (pl r) (sa r) (rs r) (mt r) (ia r) (ra_vw 40 r ev) (ra_vw 24 r ch) (ra_vw 24 r tk) (ra_vw 4 r rg) (ysa r) (ypl r) (ysp r) (yrs r) (ywk r) (yov r) (ysg r) (ra_vw 4 r yrg) := by
  rcases h with h | ⟨h1, h2, h3⟩
  · exact Or.inl h
  · exact Or.inr ⟨h1, hl, h3⟩
theorem rr_state (hr : r < 3) (hok : rm_ok L op) (hrun : rr_run L lk op fi se (st r) (ar r) (es r) (sg r) (wk r) (kn r) (pl r) (sa r) (rs r) (mt r) (ia r) (ra_vw 40 r ev) (ra_vw 24 r ch) (ra_vw 24 r tk) (ra_vw 4 r rg) (ysa r) (ypl r) (ysp r) (yrs r) (ywk r) (yov r) (ysg r) (ra_vw 4 r yrg)) (hst : st r ≠ 0) :
    ∃ (kn' g : Nat → Int32) (p : Int32) (a m j S : Nat) (s q w yw : Int32), kn' r ≠ 0 ∧ (∀ r', r' ≠ r → kn' r' = kn r') ∧ lk ≠ 0 ∧ S ≤ 24 ∧ sg r = nI S ∧ ysg r = nI S ∧
      rm_R L op fi se (ar r) (ra_vw 40 r ev) j g p a m ∧ rm_F L op fi se (ra_vw 24 r ch) (ra_vw 24 r tk) S g p a m s q ∧ ((s = 2 ∧ ¬ w ≤ 0 ∧ yw = w) ∨ (s ≠ 2 ∧ w = 0)) ∧
      (nI L, lk, fN, op, ya, se, ysa, ypl, ysp, yrg, yrs, ywk, yov, ysg, ch, va, tk) = (nI L, lk, fN, op, ya, se, upd ysa r s, upd ypl r p, upd ysp r (nI a), ra_sl 4 r g yrg, upd yrs r q, upd ywk r yw, upd yov r (nI m), ysg, ch, va, ra_sl 24 r (ra_vw 24 r tk) tk) ∧
      (∀ Q : SX → Prop, Q (nI L, lk, fN, op, fi, se, st, ar, upd es r (nI m), ra_sl 40 r (ra_vw 40 r ev) ev, sg, ch, va, ra_sl 24 r (ra_vw 24 r tk) tk, upd wk r w, kn', ra_sl 4 r g rg, upd pl r p, upd sa r s, upd rs r q, upd mt r (nI m), upd ia r (nI a)) → wpX_remember Q (nI L, lk, fN, op, fi, se, st, ar, es, ev, sg, ch, va, tk, wk, kn, rg, pl, sa, rs, mt, ia) (nI r)) := by
  rcases hrun with h | ⟨-, hlk, hysg, g, p, a, m, j, S, s, q, hS, hs, hR, hF, hes, e1, e2, e3, e4, e5, e6, hk, hw⟩
  · exact absurd h.1 hst
  have hZ : (nI L, lk, fN, op, ya, se, ysa, ypl, ysp, yrg, yrs, ywk, yov, ysg, ch, va, tk) = (nI L, lk, fN, op, ya, se, upd ysa r s, upd ypl r p, upd ysp r (nI a), ra_sl 4 r g yrg, upd yrs r q, upd ywk r (ywk r), upd yov r (nI m), ysg, ch, va, ra_sl 24 r (ra_vw 24 r tk) tk) := by
    rw [ra_ue e1, ra_ue e2, ra_ue e3, ra_ue e4, ra_ue e5, ra_slv, ra_ue (show ywk r = ywk r from rfl), ra_sle (fun i hi => (ra_vwr hi).symm.trans (e6 i hi))]
  by_cases c : kn r = 0
  · refine ⟨upd kn r 1, g, p, a, m, j, S, s, q, wk r, ywk r, by rw [pk_us]; decide, fun r' h => pk_un h, hlk, hS, hs, hysg.trans hs, hR, hF, hw, hZ, fun Q hQ => ?_⟩
    exact xf_rem0 hr hst c hok hS hs hes hR hF (fun z => by rcases hw with hw | hw; exact hw.2.1; exact absurd z hw.1) hQ
  · refine ⟨kn, g, p, a, m, j, S, s, q, wk r, ywk r, c, fun r' h => rfl, hlk, hS, hs, hysg.trans hs, hR, hF, hw, hZ, fun Q hQ => ?_⟩
    obtain ⟨k1, k2, k3, k4, k5, k6⟩ := hk c
    rw [ra_ue k1, ra_ue k2, ra_ue k3, ra_ue k4, ra_ue k5, ra_ue hes, ra_slv, ra_slv, ra_ue (show wk r = wk r from rfl), ra_sle (fun i hi => (ra_vwr hi).symm.trans (k6 i hi))] at hQ
    exact xf_rem1 hr hst c hQ
theorem rr_close {g e t : Nat → Int32} {p s q w yw : Int32} {a m j S : Nat} (hr : r < 3) (hok : rm_ok L op) (hT : T ≤ 250 * k) (hya : ∀ j, ya j = fi j &&& 3)
    (hoth : ∀ r', r' < 3 → r' ≠ r → rr_run L lk op fi se (st r') (ar r') (es r') (sg r') (wk r') (kn r') (pl r') (sa r') (rs r') (mt r') (ia r') (ra_vw 40 r' ev) (ra_vw 24 r' ch) (ra_vw 24 r' tk) (ra_vw 4 r' rg) (ysa r') (ypl r') (ysp r') (yrs r') (ywk r') (yov r') (ysg r') (ra_vw 4 r' yrg)) (hst : st r ≠ 0) (hlk : lk ≠ 0) (hS : S ≤ 24) (hs : sg r = nI S) (hys : ysg r = nI S)
    (hR : rm_R L op fi se (ar r) e j g p a m) (hF : rm_F L op fi se (ra_vw 24 r ch) t S g p a m s q) (hw : (s = 2 ∧ ¬ w ≤ 0 ∧ yw = w) ∨ (s ≠ 2 ∧ w = 0)) :
    i_Rel k (nI L, lk, nI T, op, fi, se, st, ar, upd es r (nI m), ra_sl 40 r e ev, sg, ch, va, ra_sl 24 r t tk, upd wk r w, kn, ra_sl 4 r g rg, upd pl r p, upd sa r s, upd rs r q, upd mt r (nI m), upd ia r (nI a)) (nI L, lk, nI T, op, ya, se, upd ysa r s, upd ypl r p, upd ysp r (nI a), ra_sl 4 r g yrg, upd yrs r q, upd ywk r yw, upd yov r (nI m), ysg, ch, va, ra_sl 24 r t tk) := by
  refine rr_in hok hT hya fun r' hr' => ?_
  by_cases h : r' = r
  · subst h
    have hb := rm_bnd hR
    refine Or.inr ⟨hst, hlk, hys.trans hs.symm, g, p, a, m, j, S, s, q, hS, hs, ?_, ?_, pk_us, pk_us, pk_us, pk_us, pk_us, pk_us, ?_, fun _ => ⟨pk_us, pk_us, pk_us, pk_us, pk_us, ?_⟩, ?_⟩
    · rw [ra_vsl]
      exact rm_cong (fun i hi => ra_trr (by omega)) hR
    · rw [ra_vsl]
      exact rm_Ft (fun i hi => ra_trr (by omega)) hF
    · rw [ra_vsl]
      exact fun i hi => ra_trr hi
    · rw [ra_vsl]
      exact fun i hi => ra_trr hi
    · rw [pk_us, pk_us]
      exact hw
  · have := hoth r' hr' h
    simp only [pk_un h, ra_vsn h]
    exact this
end
end
section
theorem i_vc0 : wpX_init (fun u => wpY_init (fun v => i_Rel 0 u v)) := by
  refine rr_in (L := 0) (T := 0) (k := 0) ⟨by omega, fun P h => absurd h (by omega)⟩ (by omega) (fun j => by rfl) fun r hr => ?_
  exact Or.inl ⟨rfl, rfl, rfl, 0, by omega, rfl⟩
theorem i_vc_time {k : Nat} {u : SX} {v : SY} (I : i_Rel k u v) (hk : k + 4 ≤ 2048) : wpX_time (fun r => wpY_time (fun r' => r' = r ∧ i_Rel (k + 4) u v) v) u := by
  refine rr_el (P := fun u v => wpX_time (fun r => wpY_time (fun r' => r' = r ∧ i_Rel (k + 4) u v) v) u) ?_ I
  intro L T lk op fi se st ar es ev sg ch va tk wk kn rg pl sa rs mt ia ya ysa ypl ysp yrg yrs ywk yov ysg hok hT hya hA
  exact And.intro rfl (rr_in hok (by omega) hya hA)
theorem i_vc_state {k : Nat} {u : SX} {v : SY} (I : i_Rel k u v) (hk : k + 4 ≤ 2048) (v1 : Int32) : wpX_state (fun r u' => wpY_state (fun r' => r' = r ∧ i_Rel (k + 4) u' v) v v1) u v1 := by
  refine rr_el (P := fun u v => wpX_state (fun r u' => wpY_state (fun r' => r' = r ∧ i_Rel (k + 4) u' v) v v1) u v1) ?_ I
  intro L T lk op fi se st ar es ev sg ch va tk wk kn rg pl sa rs mt ia ya ysa ypl ysp yrg yrs ywk yov ysg hok hT hya hA
  have hI : i_Rel (k + 4) (nI L, lk, nI T, op, fi, se, st, ar, es, ev, sg, ch, va, tk, wk, kn, rg, pl, sa, rs, mt, ia) (nI L, lk, nI T, op, ya, se, ysa, ypl, ysp, yrg, yrs, ywk, yov, ysg, ch, va, tk) := rr_in hok (by omega) hya hA
  have bad : (v1 < 0 ∨ nI 3 ≤ v1) → wpX_state (fun r u' => wpY_state (fun r' => r' = r ∧ i_Rel (k + 4) u' (nI L, lk, nI T, op, ya, se, ysa, ypl, ysp, yrg, yrs, ywk, yov, ysg, ch, va, tk)) (nI L, lk, nI T, op, ya, se, ysa, ypl, ysp, yrg, yrs, ywk, yov, ysg, ch, va, tk) v1) (nI L, lk, nI T, op, fi, se, st, ar, es, ev, sg, ch, va, tk, wk, kn, rg, pl, sa, rs, mt, ia) v1 := by
    intro c
    unfold wpX_state
    refine xf_bad c ?_
    refine br_f (by decide) ?_
    unfold wpY_state
    refine yf_bad c ?_
    refine br_t rfl ?_
    exact ⟨rfl, hI⟩
  rcases pk_ix v1 (n := 3) (by decide) with c | c | ⟨r, hr, rfl⟩
  · exact bad (Or.inl c)
  · exact bad (Or.inr c)
  have h3 := rf_in3 hr
  by_cases hst : st r = 0
  · unfold wpX_state
    refine xf_good hr ?_
    refine br_t rfl ?_
    refine xf_st0 hr hst ?_
    unfold wpY_state
    refine yf_good hr ?_
    refine br_f (by decide) (And.intro h3 (And.intro ?_ hI))
    rw [rf_c3 hr]
    rcases hA r hr with h | h
    · exact h.2.1
    · exact absurd hst h.1
  · obtain ⟨kn', g, p, a, m, j, S, s, q, w, yw, hkn, hkn', hlk, hS, hs, hys, hR, hF, hw, hZ, hX⟩ := rr_state (fN := nI T) hr hok (hA r hr) hst
    have hI2 : i_Rel (k + 4) (nI L, lk, nI T, op, fi, se, st, ar, upd es r (nI m), ra_sl 40 r (ra_vw 40 r ev) ev, sg, ch, va, ra_sl 24 r (ra_vw 24 r tk) tk, upd wk r w, kn', ra_sl 4 r g rg, upd pl r p, upd sa r s, upd rs r q, upd mt r (nI m), upd ia r (nI a)) (nI L, lk, nI T, op, ya, se, upd ysa r s, upd ypl r p, upd ysp r (nI a), ra_sl 4 r g yrg, upd yrs r q, upd ywk r yw, upd yov r (nI m), ysg, ch, va, ra_sl 24 r (ra_vw 24 r tk) tk) :=
      rr_close hr hok (by omega) hya (fun r' hr' h => by rw [hkn' r' h]; exact hA r' hr') hst hlk hS hs hys hR hF hw
    rw [hZ]
    unfold wpX_state
    refine xf_good hr ?_
    refine br_t rfl ?_
    refine xf_st1 hr hst hX ?_
    unfold wpY_state
    refine yf_good hr ?_
    refine br_f (by decide) (And.intro h3 (And.intro ?_ hI2))
    rw [rf_c3 hr, pk_us]
theorem i_vc_register {k : Nat} {u : SX} {v : SY} (I : i_Rel k u v) (hk : k + 4 ≤ 2048) (v1 : Int32) (v2 : Int32) : wpX_register (fun r u' => wpY_register (fun r' => r' = r ∧ i_Rel (k + 4) u' v) v v1 v2) u v1 v2 := by
  refine rr_el (P := fun u v => wpX_register (fun r u' => wpY_register (fun r' => r' = r ∧ i_Rel (k + 4) u' v) v v1 v2) u v1 v2) ?_ I
  intro L T lk op fi se st ar es ev sg ch va tk wk kn rg pl sa rs mt ia ya ysa ypl ysp yrg yrs ywk yov ysg hok hT hya hA
  have hI : i_Rel (k + 4) (nI L, lk, nI T, op, fi, se, st, ar, es, ev, sg, ch, va, tk, wk, kn, rg, pl, sa, rs, mt, ia) (nI L, lk, nI T, op, ya, se, ysa, ypl, ysp, yrg, yrs, ywk, yov, ysg, ch, va, tk) := rr_in hok (by omega) hya hA
  have bad : (v1 < 0 ∨ nI 3 ≤ v1) → wpX_register (fun r u' => wpY_register (fun r' => r' = r ∧ i_Rel (k + 4) u' (nI L, lk, nI T, op, ya, se, ysa, ypl, ysp, yrg, yrs, ywk, yov, ysg, ch, va, tk)) (nI L, lk, nI T, op, ya, se, ysa, ypl, ysp, yrg, yrs, ywk, yov, ysg, ch, va, tk) v1 v2) (nI L, lk, nI T, op, fi, se, st, ar, es, ev, sg, ch, va, tk, wk, kn, rg, pl, sa, rs, mt, ia) v1 v2 := by
    intro c
    unfold wpX_register
    refine xf_bad c ?_
    refine br_f (by decide) ?_
    unfold wpY_register
    refine yf_bad c ?_
    refine br_t rfl ?_
    exact ⟨rfl, hI⟩
  rcases pk_ix v1 (n := 3) (by decide) with c | c | ⟨r, hr, rfl⟩
  · exact bad (Or.inl c)
  · exact bad (Or.inr c)
  have h3 := rf_in3 hr
  by_cases hst : st r = 0
  · have hy : ysa r = 0 := by
      rcases hA r hr with h | h
      · exact h.2.1
      · exact absurd hst h.1
    unfold wpX_register
    refine xf_good hr ?_
    refine br_t rfl (And.intro h3 (br_t (by rw [rf_c3 hr]; exact hst) ?_))
    unfold wpY_register
    refine yf_good hr ?_
    refine br_f (by decide) (And.intro h3 (br_t (by rw [rf_c3 hr]; exact hy) (And.intro rfl hI)))
  · obtain ⟨kn', g, p, a, m, j, S, s, q, w, yw, hkn, hkn', hlk, hS, hs, hys, hR, hF, hw, hZ, hX⟩ := rr_state (fN := nI T) hr hok (hA r hr) hst
    have hI2 : i_Rel (k + 4) (nI L, lk, nI T, op, fi, se, st, ar, upd es r (nI m), ra_sl 40 r (ra_vw 40 r ev) ev, sg, ch, va, ra_sl 24 r (ra_vw 24 r tk) tk, upd wk r w, kn', ra_sl 4 r g rg, upd pl r p, upd sa r s, upd rs r q, upd mt r (nI m), upd ia r (nI a)) (nI L, lk, nI T, op, ya, se, upd ysa r s, upd ypl r p, upd ysp r (nI a), ra_sl 4 r g yrg, upd yrs r q, upd ywk r yw, upd yov r (nI m), ysg, ch, va, ra_sl 24 r (ra_vw 24 r tk) tk) :=
      rr_close hr hok (by omega) hya (fun r' hr' h => by rw [hkn' r' h]; exact hA r' hr') hst hlk hS hs hys hR hF hw
    have hx := rf_3l v2
    have i4 : vp_in (nI r * 4 + (v2 &&& 3)) 12 := by rw [rf_4i]; exact vp_in_nI (by omega) (by decide)
    have c4 : (nI r * 4 + (v2 &&& 3)).toNatClampNeg = 4 * r + rf_3 v2 := by rw [rf_4i]; exact nI_clamp (by omega)
    rw [hZ]
    unfold wpX_register
    refine xf_good hr ?_
    refine br_t rfl (And.intro h3 (br_f (by rw [rf_c3 hr]; exact hst) ?_))
    refine hX _ (And.intro i4 ?_)
    unfold wpY_register
    refine yf_good hr ?_
    refine br_f (by decide) (And.intro h3 (br_f ?_ (And.intro i4 (And.intro ?_ hI2))))
    · rw [rf_c3 hr, pk_us]
      rcases rm_Fs hF with h | h | h | h <;> rw [h] <;> decide
    · rw [c4, ra_slr hx, ra_slr hx]
theorem i_vc_activity {k : Nat} {u : SX} {v : SY} (I : i_Rel k u v) (hk : k + 4 ≤ 2048) (v1 : Int32) : wpX_activity (fun r u' => wpY_activity (fun r' => r' = r ∧ i_Rel (k + 4) u' v) v v1) u v1 := by
  refine rr_el (P := fun u v => wpX_activity (fun r u' => wpY_activity (fun r' => r' = r ∧ i_Rel (k + 4) u' v) v v1) u v1) ?_ I
  intro L T lk op fi se st ar es ev sg ch va tk wk kn rg pl sa rs mt ia ya ysa ypl ysp yrg yrs ywk yov ysg hok hT hya hA
  have hI : i_Rel (k + 4) (nI L, lk, nI T, op, fi, se, st, ar, es, ev, sg, ch, va, tk, wk, kn, rg, pl, sa, rs, mt, ia) (nI L, lk, nI T, op, ya, se, ysa, ypl, ysp, yrg, yrs, ywk, yov, ysg, ch, va, tk) := rr_in hok (by omega) hya hA
  have bad : (v1 < 0 ∨ nI 3 ≤ v1) → wpX_activity (fun r u' => wpY_activity (fun r' => r' = r ∧ i_Rel (k + 4) u' (nI L, lk, nI T, op, ya, se, ysa, ypl, ysp, yrg, yrs, ywk, yov, ysg, ch, va, tk)) (nI L, lk, nI T, op, ya, se, ysa, ypl, ysp, yrg, yrs, ywk, yov, ysg, ch, va, tk) v1) (nI L, lk, nI T, op, fi, se, st, ar, es, ev, sg, ch, va, tk, wk, kn, rg, pl, sa, rs, mt, ia) v1 := by
    intro c
    unfold wpX_activity
    refine xf_bad c ?_
    refine br_f (by decide) ?_
    unfold wpY_activity
    refine yf_bad c ?_
    refine br_t rfl ?_
    exact ⟨rfl, hI⟩
  rcases pk_ix v1 (n := 3) (by decide) with c | c | ⟨r, hr, rfl⟩
  · exact bad (Or.inl c)
  · exact bad (Or.inr c)
  have h3 := rf_in3 hr
  by_cases hst : st r = 0
  · have hy : ysa r = 0 := by
      rcases hA r hr with h | h
      · exact h.2.1
      · exact absurd hst h.1
    unfold wpX_activity
    refine xf_good hr ?_
    refine br_t rfl ?_
    refine xf_st0 hr hst ?_
    refine br_f (by decide) ?_
    unfold wpY_activity
    refine yf_good hr ?_
    refine br_f (by decide) (And.intro h3 (br_f (by rw [rf_c3 hr, hy]; decide) (And.intro rfl hI)))
  · obtain ⟨kn', g, p, a, m, j, S, s, q, w, yw, hkn, hkn', hlk, hS, hs, hys, hR, hF, hw, hZ, hX⟩ := rr_state (fN := nI T) hr hok (hA r hr) hst
    have hI2 : i_Rel (k + 4) (nI L, lk, nI T, op, fi, se, st, ar, upd es r (nI m), ra_sl 40 r (ra_vw 40 r ev) ev, sg, ch, va, ra_sl 24 r (ra_vw 24 r tk) tk, upd wk r w, kn', ra_sl 4 r g rg, upd pl r p, upd sa r s, upd rs r q, upd mt r (nI m), upd ia r (nI a)) (nI L, lk, nI T, op, ya, se, upd ysa r s, upd ypl r p, upd ysp r (nI a), ra_sl 4 r g yrg, upd yrs r q, upd ywk r yw, upd yov r (nI m), ysg, ch, va, ra_sl 24 r (ra_vw 24 r tk) tk) :=
      rr_close hr hok (by omega) hya (fun r' hr' h => by rw [hkn' r' h]; exact hA r' hr') hst hlk hS hs hys hR hF hw
    rw [hZ]
    unfold wpX_activity
    refine xf_good hr ?_
    refine br_t rfl ?_
    refine xf_st1 hr hst hX ?_
    have e1 : upd ysa r s (nI r).toNatClampNeg = s := by rw [rf_c3 hr, pk_us]
    by_cases c : s = 1
    · obtain ⟨P, hP, hp, ha, hm, hq, ho⟩ := rm_F1 hF c (by decide)
      have hL := hok.1
      have e2 : upd pl r p (nI r).toNatClampNeg = nI P := by rw [rf_c3 hr, pk_us, hp]
      have e3 : upd ypl r p (nI r).toNatClampNeg = nI P := by rw [rf_c3 hr, pk_us, hp]
      refine br_t c (And.intro h3 (And.intro (by rw [e2]; exact vp_in_nI (by omega) (by decide)) ?_))
      unfold wpY_activity
      refine yf_good hr ?_
      refine br_f (by decide) (And.intro h3 (br_t (by rw [e1]; exact c) (And.intro h3 (And.intro (by rw [e3]; exact vp_in_nI (by omega) (by decide)) (And.intro ?_ hI2)))))
      rw [e2, e3]
    · refine br_f c ?_
      unfold wpY_activity
      refine yf_good hr ?_
      exact br_f (by decide) (And.intro h3 (br_f (by rw [e1]; exact c) (And.intro rfl hI2)))
theorem i_vc_result {k : Nat} {u : SX} {v : SY} (I : i_Rel k u v) (hk : k + 4 ≤ 2048) (v1 : Int32) : wpX_result (fun r u' => wpY_result (fun r' => r' = r ∧ i_Rel (k + 4) u' v) v v1) u v1 := by
  refine rr_el (P := fun u v => wpX_result (fun r u' => wpY_result (fun r' => r' = r ∧ i_Rel (k + 4) u' v) v v1) u v1) ?_ I
  intro L T lk op fi se st ar es ev sg ch va tk wk kn rg pl sa rs mt ia ya ysa ypl ysp yrg yrs ywk yov ysg hok hT hya hA
  have hI : i_Rel (k + 4) (nI L, lk, nI T, op, fi, se, st, ar, es, ev, sg, ch, va, tk, wk, kn, rg, pl, sa, rs, mt, ia) (nI L, lk, nI T, op, ya, se, ysa, ypl, ysp, yrg, yrs, ywk, yov, ysg, ch, va, tk) := rr_in hok (by omega) hya hA
  have bad : (v1 < 0 ∨ nI 3 ≤ v1) → wpX_result (fun r u' => wpY_result (fun r' => r' = r ∧ i_Rel (k + 4) u' (nI L, lk, nI T, op, ya, se, ysa, ypl, ysp, yrg, yrs, ywk, yov, ysg, ch, va, tk)) (nI L, lk, nI T, op, ya, se, ysa, ypl, ysp, yrg, yrs, ywk, yov, ysg, ch, va, tk) v1) (nI L, lk, nI T, op, fi, se, st, ar, es, ev, sg, ch, va, tk, wk, kn, rg, pl, sa, rs, mt, ia) v1 := by
    intro c
    unfold wpX_result
    refine xf_bad c ?_
    refine br_f (by decide) ?_
    unfold wpY_result
    refine yf_bad c ?_
    refine br_t rfl ?_
    exact ⟨rfl, hI⟩
  rcases pk_ix v1 (n := 3) (by decide) with c | c | ⟨r, hr, rfl⟩
  · exact bad (Or.inl c)
  · exact bad (Or.inr c)
  have h3 := rf_in3 hr
  by_cases hst : st r = 0
  · have hy : ysa r = 0 := by
      rcases hA r hr with h | h
      · exact h.2.1
      · exact absurd hst h.1
    unfold wpX_result
    refine xf_good hr ?_
    refine br_t rfl ?_
    refine xf_st0 hr hst ?_
    refine br_f (by decide) ?_
    unfold wpY_result
    refine yf_good hr ?_
    refine br_f (by decide) (And.intro h3 (br_f (by rw [rf_c3 hr, hy]; decide) (And.intro rfl hI)))
  · obtain ⟨kn', g, p, a, m, j, S, s, q, w, yw, hkn, hkn', hlk, hS, hs, hys, hR, hF, hw, hZ, hX⟩ := rr_state (fN := nI T) hr hok (hA r hr) hst
    have hI2 : i_Rel (k + 4) (nI L, lk, nI T, op, fi, se, st, ar, upd es r (nI m), ra_sl 40 r (ra_vw 40 r ev) ev, sg, ch, va, ra_sl 24 r (ra_vw 24 r tk) tk, upd wk r w, kn', ra_sl 4 r g rg, upd pl r p, upd sa r s, upd rs r q, upd mt r (nI m), upd ia r (nI a)) (nI L, lk, nI T, op, ya, se, upd ysa r s, upd ypl r p, upd ysp r (nI a), ra_sl 4 r g yrg, upd yrs r q, upd ywk r yw, upd yov r (nI m), ysg, ch, va, ra_sl 24 r (ra_vw 24 r tk) tk) :=
      rr_close hr hok (by omega) hya (fun r' hr' h => by rw [hkn' r' h]; exact hA r' hr') hst hlk hS hs hys hR hF hw
    rw [hZ]
    unfold wpX_result
    refine xf_good hr ?_
    refine br_t rfl ?_
    refine xf_st1 hr hst hX ?_
    have e1 : upd ysa r s (nI r).toNatClampNeg = s := by rw [rf_c3 hr, pk_us]
    by_cases c : s = 4
    · refine br_t c (And.intro h3 ?_)
      unfold wpY_result
      refine yf_good hr ?_
      refine br_f (by decide) (And.intro h3 (br_t (by rw [e1]; exact c) (And.intro h3 (And.intro ?_ hI2))))
      rw [rf_c3 hr, pk_us, pk_us]
    · refine br_f c ?_
      unfold wpY_result
      refine yf_good hr ?_
      exact br_f (by decide) (And.intro h3 (br_f (by rw [e1]; exact c) (And.intro rfl hI2)))
section
variable {fL lk fN : Int32} {op fi se st ar es ev sg ch va tk wk kn rg pl sa rs mt ia : Nat → Int32} {ya ysa ypl ysp yrg yrs ywk yov ysg ytk : Nat → Int32} {r S : Nat}
theorem rn_both (hr : r < 3) (hS : S ≤ 24) (hs : sg r = nI S) (hys : ysg r = nI S) (hy : ysa r ≠ 0) : ∀ d i, i + d = S → ∀ c : Int32, ∃ c' : Int32,
    (∀ (post : Int32 → Prop) (n : Nat), d < n → post c' → wX_untaken_17 post (nI r) fL lk fN op fi se st ar es ev sg ch va tk wk kn rg pl sa rs mt ia n c (nI (24 * r + i))) ∧
    (∀ (post : Int32 → Prop) (n : Nat), d < n → post c' → wY_untaken_18 post (nI r) fL lk fN op ya se ysa ypl ysp yrg yrs ywk yov ysg ch va tk n c (nI (24 * r + i))) := by
  have h3 := rf_in3 hr
  have e1 : nI r * 24 + sg (nI r).toNatClampNeg = nI (24 * r + S) := by rw [rf_c3 hr, hs, rf_24i]
  have e2 : nI r * 24 + ysg (nI r).toNatClampNeg = nI (24 * r + S) := by rw [rf_c3 hr, hys, rf_24i]
  have e3 : ysa (nI r).toNatClampNeg ≠ 0 := by rw [rf_c3 hr]; exact hy
  intro d
  induction d with
  | zero =>
    intro i hi c
    refine ⟨c, fun post n hn hp => ?_, fun post n hn hp => ?_⟩
    · obtain ⟨n, rfl⟩ : ∃ k, n = k + 1 := ⟨n - 1, by omega⟩
      exact And.intro h3 (br_t (by rw [e1]; exact nI_le (by omega) (by omega)) hp)
    · obtain ⟨n, rfl⟩ : ∃ k, n = k + 1 := ⟨n - 1, by omega⟩
      exact And.intro h3 (br_t (by rw [e2]; exact nI_le (by omega) (by omega)) hp)
  | succ d ih =>
    intro i hi c
    have h72 : vp_in (nI (24 * r + i)) 72 := vp_in_nI (by omega) (by decide)
    by_cases z : tk (nI (24 * r + i)).toNatClampNeg = 0
    · obtain ⟨c', hX, hY⟩ := ih (i + 1) (by omega) (c + 1)
      refine ⟨c', fun post n hn hp => ?_, fun post n hn hp => ?_⟩
      · obtain ⟨n, rfl⟩ : ∃ k, n = k + 1 := ⟨n - 1, by omega⟩
        refine And.intro h3 (br_f (by rw [e1]; exact nI_ge (by omega) (by omega)) (And.intro h72 (br_t z (nm_e (nm_r (e' := nI (24 * r + (i + 1))) (nI_1 _) ?_)))))
        exact hX post n (by omega) hp
      · obtain ⟨n, rfl⟩ : ∃ k, n = k + 1 := ⟨n - 1, by omega⟩
        refine And.intro h3 (br_f (by rw [e2]; exact nI_ge (by omega) (by omega)) (And.intro h72 (br_t z (And.intro h3 (br_f e3 (nm_e (nm_r (e' := nI (24 * r + (i + 1))) (nI_1 _) ?_)))))))
        exact hY post n (by omega) hp
    · obtain ⟨c', hX, hY⟩ := ih (i + 1) (by omega) c
      refine ⟨c', fun post n hn hp => ?_, fun post n hn hp => ?_⟩
      · obtain ⟨n, rfl⟩ : ∃ k, n = k + 1 := ⟨n - 1, by omega⟩
        refine And.intro h3 (br_f (by rw [e1]; exact nI_ge (by omega) (by omega)) (And.intro h72 (br_f z (nm_r (e' := nI (24 * r + (i + 1))) (nI_1 _) ?_))))
        exact hX post n (by omega) hp
      · obtain ⟨n, rfl⟩ : ∃ k, n = k + 1 := ⟨n - 1, by omega⟩
        refine And.intro h3 (br_f (by rw [e2]; exact nI_ge (by omega) (by omega)) (And.intro h72 (br_f z (nm_r (e' := nI (24 * r + (i + 1))) (nI_1 _) ?_))))
        exact hY post n (by omega) hp
theorem rn_none {post : Int32 → Prop} {c : Int32} (hr : r < 3) (hS : S ≤ 24) (hys : ysg r = nI S) (hy : ysa r = 0) (hp : post c) : ∀ d i n, i + d = S → d < n →
    wY_untaken_18 post (nI r) fL lk fN op ya se ysa ypl ysp yrg yrs ywk yov ysg ch va tk n c (nI (24 * r + i)) := by
  have h3 := rf_in3 hr
  have e2 : nI r * 24 + ysg (nI r).toNatClampNeg = nI (24 * r + S) := by rw [rf_c3 hr, hys, rf_24i]
  have e3 : ysa (nI r).toNatClampNeg = 0 := by rw [rf_c3 hr]; exact hy
  intro d
  induction d with
  | zero =>
    intro i n hi hn
    obtain ⟨n, rfl⟩ : ∃ k, n = k + 1 := ⟨n - 1, by omega⟩
    exact And.intro h3 (br_t (by rw [e2]; exact nI_le (by omega) (by omega)) hp)
  | succ d ih =>
    intro i n hi hn
    obtain ⟨n, rfl⟩ : ∃ k, n = k + 1 := ⟨n - 1, by omega⟩
    have h72 : vp_in (nI (24 * r + i)) 72 := vp_in_nI (by omega) (by decide)
    by_cases z : tk (nI (24 * r + i)).toNatClampNeg = 0
    · refine And.intro h3 (br_f (by rw [e2]; exact nI_ge (by omega) (by omega)) (And.intro h72 (br_t z (And.intro h3 (br_t e3 (nm_r (e' := nI (24 * r + (i + 1))) (nI_1 _) ?_))))))
      exact ih (i + 1) n (by omega) (by omega)
    · refine And.intro h3 (br_f (by rw [e2]; exact nI_ge (by omega) (by omega)) (And.intro h72 (br_f z (nm_r (e' := nI (24 * r + (i + 1))) (nI_1 _) ?_))))
      exact ih (i + 1) n (by omega) (by omega)
end
theorem i_vc_untaken {k : Nat} {u : SX} {v : SY} (I : i_Rel k u v) (hk : k + 4 ≤ 2048) (v1 : Int32) : wpX_untaken (fun r => wpY_untaken (fun r' => r' = r ∧ i_Rel (k + 4) u v) v v1) u v1 := by
  refine rr_el (P := fun u v => wpX_untaken (fun r => wpY_untaken (fun r' => r' = r ∧ i_Rel (k + 4) u v) v v1) u v1) ?_ I
  intro L T lk op fi se st ar es ev sg ch va tk wk kn rg pl sa rs mt ia ya ysa ypl ysp yrg yrs ywk yov ysg hok hT hya hA
  have hI : i_Rel (k + 4) (nI L, lk, nI T, op, fi, se, st, ar, es, ev, sg, ch, va, tk, wk, kn, rg, pl, sa, rs, mt, ia) (nI L, lk, nI T, op, ya, se, ysa, ypl, ysp, yrg, yrs, ywk, yov, ysg, ch, va, tk) := rr_in hok (by omega) hya hA
  have bad : (v1 < 0 ∨ nI 3 ≤ v1) → wpX_untaken (fun r => wpY_untaken (fun r' => r' = r ∧ i_Rel (k + 4) (nI L, lk, nI T, op, fi, se, st, ar, es, ev, sg, ch, va, tk, wk, kn, rg, pl, sa, rs, mt, ia) (nI L, lk, nI T, op, ya, se, ysa, ypl, ysp, yrg, yrs, ywk, yov, ysg, ch, va, tk)) (nI L, lk, nI T, op, ya, se, ysa, ypl, ysp, yrg, yrs, ywk, yov, ysg, ch, va, tk) v1) (nI L, lk, nI T, op, fi, se, st, ar, es, ev, sg, ch, va, tk, wk, kn, rg, pl, sa, rs, mt, ia) v1 := by
    intro c
    unfold wpX_untaken
    refine xf_bad c ?_
    refine br_f (by decide) ?_
    unfold wpY_untaken
    refine yf_bad c ?_
    refine br_t rfl ?_
    exact ⟨rfl, hI⟩
  rcases pk_ix v1 (n := 3) (by decide) with c | c | ⟨r, hr, rfl⟩
  · exact bad (Or.inl c)
  · exact bad (Or.inr c)
  have h3 := rf_in3 hr
  rcases hA r hr with ⟨hst, hy, hs, S, hS, hys⟩ | ⟨hst, hlk, hysg, g, p, a, m, j, S, s, q, hS, hs, hR, hF, hes, e1, -⟩
  · unfold wpX_untaken
    refine xf_good hr ?_
    refine br_t rfl (nm_r (e' := nI (24 * r)) (rf_24 r) (Exists.intro 1 (And.intro h3 (br_t ?_ ?_))))
    · rw [rf_c3 hr, hs, rf_24, Int32.add_zero]
      exact nI_le (Nat.le_refl _) (by omega)
    · unfold wpY_untaken
      refine yf_good hr ?_
      refine br_f (by decide) (nm_r (e' := nI (24 * r + 0)) (rf_24 r) (Exists.intro (S + 1) ?_))
      exact rn_none hr hS hys hy ⟨rfl, hI⟩ S 0 (S + 1) (by omega) (by omega)
  · have hy : ysa r ≠ 0 := by
      rw [e1]
      rcases rm_Fs hF with h | h | h | h <;> rw [h] <;> decide
    obtain ⟨c', hX, hY⟩ := rn_both (fL := nI L) (lk := lk) (fN := nI T) (op := op) (fi := fi) (se := se) (st := st) (ar := ar) (es := es) (ev := ev) (ch := ch) (va := va) (tk := tk) (wk := wk) (kn := kn) (rg := rg) (pl := pl) (sa := sa) (rs := rs) (mt := mt) (ia := ia) (ya := ya) (ypl := ypl) (ysp := ysp) (yrg := yrg) (yrs := yrs) (ywk := ywk) (yov := yov) hr hS hs (hysg.trans hs) hy S 0 (by omega) 0
    unfold wpX_untaken
    refine xf_good hr ?_
    refine br_t rfl (nm_r (e' := nI (24 * r + 0)) (rf_24 r) (Exists.intro (S + 1) (hX _ (S + 1) (by omega) ?_)))
    unfold wpY_untaken
    refine yf_good hr ?_
    refine br_f (by decide) (nm_r (e' := nI (24 * r + 0)) (rf_24 r) (Exists.intro (S + 1) (hY _ (S + 1) (by omega) ?_)))
    exact ⟨rfl, hI⟩
end
section
theorem i_vc_emit {k : Nat} {u : SX} {v : SY} (I : i_Rel k u v) (hk : k + 4 ≤ 2048) (v1 : Int32) (v2 : Int32) (v3 : Int32) : wpX_emit (fun r u' => wpY_emit (fun r' v' => r' = r ∧ i_Rel (k + 4) u' v') v v1 v2 v3) u v1 v2 v3 := by
  refine rr_el (P := fun u v => wpX_emit (fun r u' => wpY_emit (fun r' v' => r' = r ∧ i_Rel (k + 4) u' v') v v1 v2 v3) u v1 v2 v3) ?_ I
  intro L T lk op fi se st ar es ev sg ch va tk wk kn rg pl sa rs mt ia ya ysa ypl ysp yrg yrs ywk yov ysg hok hT hya hA
  have hI : i_Rel (k + 4) (nI L, lk, nI T, op, fi, se, st, ar, es, ev, sg, ch, va, tk, wk, kn, rg, pl, sa, rs, mt, ia) (nI L, lk, nI T, op, ya, se, ysa, ypl, ysp, yrg, yrs, ywk, yov, ysg, ch, va, tk) := rr_in hok (by omega) hya hA
  have hL := hok.1
  by_cases c0 : v1 < 0
  · refine br_t c0 (br_t c0 ?_)
    exact ⟨rfl, hI⟩
  by_cases c8 : v1 ≤ 8
  rotate_left
  · refine br_f c0 (br_f c8 (br_f c0 (br_f c8 ?_)))
    exact ⟨rfl, hI⟩
  by_cases c16 : L < 16
  rotate_left
  · obtain rfl : L = 16 := by omega
    refine br_f c0 (br_t c8 (br_f (nI_nlt (b := 16) (by omega) (by omega)) (br_f c0 (br_t c8 (br_t rfl ?_)))))
    exact ⟨rfl, hI⟩
  have d16 : nI L < 16 := nI_lt (b := 16) c16 (by decide)
  have n16 : ¬ nI L = 16 := fun z => absurd ((nI_eq (b := 16) (by omega) (by decide)).mp z) (by omega)
  by_cases cl : lk = 0
  rotate_left
  · refine br_f c0 (br_t c8 (br_t d16 (br_f cl (br_f c0 (br_t c8 (br_f n16 (br_f cl ?_)))))))
    exact ⟨rfl, hI⟩
  have hin : vp_in (nI L) 16 := vp_in_nI c16 (by decide)
  have hc : (nI L).toNatClampNeg = L := nI_clamp (by omega)
  refine br_f c0 (br_t c8 (br_t d16 (br_t cl (And.intro hin (nm_r (e' := upd op L v1) (by rw [hc]) (And.intro hin (nm_r (e' := upd fi L v2) (by rw [hc]) (And.intro hin (nm_r (e' := upd se L v3) (by rw [hc]) (nm_r (e' := nI (L + 1)) (nI_1 L) ?_))))))))))
  refine br_f c0 (br_t c8 (br_f n16 (br_t cl (And.intro hin (nm_r (e' := upd op L v1) (by rw [hc]) (And.intro hin (nm_r (e' := upd ya L (v2 &&& 3)) (by rw [hc]) (And.intro hin (nm_r (e' := upd se L v3) (by rw [hc]) (nm_r (e' := nI (L + 1)) (nI_1 L) ?_))))))))))
  refine And.intro (nI_pred L) ?_
  refine rr_in ⟨by omega, fun P hP => ?_⟩ (by omega) (fun j => ?_) fun r hr => ?_
  · by_cases e : P = L
    · subst e
      rw [pk_us]
      obtain ⟨j, hj, rfl⟩ := nI_of2 (M := 8) (n := 8) (by decide) c0 c8
      rcases (show j = 0 ∨ j = 1 ∨ j = 2 ∨ j = 3 ∨ j = 4 ∨ j = 5 ∨ j = 6 ∨ j = 7 ∨ j = 8 by omega) with h | h | h | h | h | h | h | h | h <;> subst h
      · exact Or.inl (Or.inl rfl)
      · exact Or.inl (Or.inr (Or.inl rfl))
      · exact Or.inl (Or.inr (Or.inr (Or.inl rfl)))
      · exact Or.inl (Or.inr (Or.inr (Or.inr (Or.inl rfl))))
      · exact Or.inl (Or.inr (Or.inr (Or.inr (Or.inr rfl))))
      · exact Or.inr (Or.inl (Or.inl rfl))
      · exact Or.inr (Or.inl (Or.inr (Or.inl rfl)))
      · exact Or.inr (Or.inl (Or.inr (Or.inr rfl)))
      · exact Or.inr (Or.inr rfl)
    · rw [pk_un e]
      exact hok.2 P (by omega)
  · by_cases e : j = L
    · subst e
      rw [pk_us, pk_us]
    · rw [pk_un e, pk_un e]
      exact hya j
  · rcases hA r hr with h | ⟨-, hl, -⟩
    · exact Or.inl h
    · exact absurd cl hl
section
variable {fL lk fN : Int32} {op fi se st ar es ev sg ch va tk wk kn rg pl sa rs mt ia : Nat → Int32} {ya ysa ypl ysp yrg yrs ywk yov ysg ytk : Nat → Int32} {r r' L : Nat}
theorem rr_forget (h : rr_run L lk op fi se (st r') (ar r') (es r') (sg r') (wk r') (kn r') (pl r') (sa r') (rs r') (mt r') (ia r') (ra_vw 40 r' ev) (ra_vw 24 r' ch) (ra_vw 24 r' tk) (ra_vw 4 r' rg) (ysa r') (ypl r') (ysp r') (yrs r') (ywk r') (yov r') (ysg r') (ra_vw 4 r' yrg)) : rr_run L lk op fi se (st r') (ar r') (es r') (sg r') (wk r') ((upd kn r 0) r') ((upd pl r 0) r') ((upd sa r 0) r') ((upd rs r 0) r') (mt r') (ia r') (ra_vw 40 r' ev) (ra_vw 24 r' ch) (ra_vw 24 r' tk) (ra_vw 4 r' (ra_sl 4 r (fun _ => 0) rg)) (ysa r') (ypl r') (ysp r') (yrs r') (ywk r') (yov r') (ysg r') (ra_vw 4 r' yrg) := by
  by_cases c : r' = r
  · subst c
    rcases h with h | ⟨h1, h2, h3, g, p, a, m, j, S, s, q, hS, hs, hR, hF, hes, e1, e2, e3, e4, e5, e6, hk, hw⟩
    · exact Or.inl h
    · exact Or.inr ⟨h1, h2, h3, g, p, a, m, j, S, s, q, hS, hs, hR, hF, hes, e1, e2, e3, e4, e5, e6, fun z => absurd pk_us z, hw⟩
  · simp only [pk_un c, ra_vsn c]
    exact h
end
theorem i_vc_forget {k : Nat} {u : SX} {v : SY} (I : i_Rel k u v) (hk : k + 4 ≤ 2048) (v1 : Int32) : wpX_forget (fun r u' => wpY_forget (fun r' => r' = r ∧ i_Rel (k + 4) u' v) v v1) u v1 := by
  refine rr_el (P := fun u v => wpX_forget (fun r u' => wpY_forget (fun r' => r' = r ∧ i_Rel (k + 4) u' v) v v1) u v1) ?_ I
  intro L T lk op fi se st ar es ev sg ch va tk wk kn rg pl sa rs mt ia ya ysa ypl ysp yrg yrs ywk yov ysg hok hT hya hA
  have hI : i_Rel (k + 4) (nI L, lk, nI T, op, fi, se, st, ar, es, ev, sg, ch, va, tk, wk, kn, rg, pl, sa, rs, mt, ia) (nI L, lk, nI T, op, ya, se, ysa, ypl, ysp, yrg, yrs, ywk, yov, ysg, ch, va, tk) := rr_in hok (by omega) hya hA
  have bad : (v1 < 0 ∨ nI 3 ≤ v1) → wpX_forget (fun r u' => wpY_forget (fun r' => r' = r ∧ i_Rel (k + 4) u' (nI L, lk, nI T, op, ya, se, ysa, ypl, ysp, yrg, yrs, ywk, yov, ysg, ch, va, tk)) (nI L, lk, nI T, op, ya, se, ysa, ypl, ysp, yrg, yrs, ywk, yov, ysg, ch, va, tk) v1) (nI L, lk, nI T, op, fi, se, st, ar, es, ev, sg, ch, va, tk, wk, kn, rg, pl, sa, rs, mt, ia) v1 := by
    intro c
    unfold wpX_forget
    refine xf_bad c ?_
    refine br_f (by decide) ?_
    unfold wpY_forget
    refine yf_bad c ?_
    refine br_t rfl ?_
    exact ⟨rfl, hI⟩
  rcases pk_ix v1 (n := 3) (by decide) with c | c | ⟨r, hr, rfl⟩
  · exact bad (Or.inl c)
  · exact bad (Or.inr c)
  have h3 := rf_in3 hr
  have i0 : nI r * 4 + (0 : Int32) = nI (4 * r + 0) := rf_4k r 0
  have i1 : nI r * 4 + (1 : Int32) = nI (4 * r + 1) := rf_4k r 1
  have i2 : nI r * 4 + (2 : Int32) = nI (4 * r + 2) := rf_4k r 2
  have i3 : nI r * 4 + (3 : Int32) = nI (4 * r + 3) := rf_4k r 3
  unfold wpX_forget
  refine xf_good hr ?_
  refine br_t rfl (And.intro h3 (nm_r (e' := upd kn r 0) (by rw [rf_c3 hr]; rfl) (Exists.intro 5 ?_)))
  refine br_f (by decide) (And.intro (by rw [i0]; exact vp_in_nI (by omega) (by decide)) (nm_r (e' := upd rg (4 * r + 0) 0) (by rw [i0, nI_clamp (by omega)]) (nm_r (e' := 1) (by decide) ?_)))
  refine br_f (by decide) (And.intro (by rw [i1]; exact vp_in_nI (by omega) (by decide)) (nm_r (e' := upd (upd rg (4 * r + 0) 0) (4 * r + 1) 0) (by rw [i1, nI_clamp (by omega)]) (nm_r (e' := 2) (by decide) ?_)))
  refine br_f (by decide) (And.intro (by rw [i2]; exact vp_in_nI (by omega) (by decide)) (nm_r (e' := upd (upd (upd rg (4 * r + 0) 0) (4 * r + 1) 0) (4 * r + 2) 0) (by rw [i2, nI_clamp (by omega)]) (nm_r (e' := 3) (by decide) ?_)))
  refine br_f (by decide) (And.intro (by rw [i3]; exact vp_in_nI (by omega) (by decide)) (nm_r (e' := ra_sl 4 r (fun _ => 0) rg) (by rw [i3, nI_clamp (by omega), ra_z4]) (nm_r (e' := 4) (by decide) ?_)))
  refine br_t (by decide) (And.intro h3 (nm_r (e' := upd pl r 0) (by rw [rf_c3 hr]) (And.intro h3 (nm_r (e' := upd sa r 0) (by rw [rf_c3 hr]) (And.intro h3 (nm_r (e' := upd rs r 0) (by rw [rf_c3 hr]) ?_))))))
  unfold wpY_forget
  refine yf_good hr ?_
  refine br_f (by decide) ?_
  exact And.intro rfl (rr_in hok (by omega) hya fun r' hr' => rr_forget (hA r' hr'))
theorem i_vc_clear {k : Nat} {u : SX} {v : SY} (I : i_Rel k u v) (hk : k + 4 ≤ 2048) : wpX_clear (fun u' => wpY_clear (fun v' => i_Rel (k + 4) u' v') v) u := by
  refine rr_el (P := fun u v => wpX_clear (fun u' => wpY_clear (fun v' => i_Rel (k + 4) u' v') v) u) ?_ I
  intro L T lk op fi se st ar es ev sg ch va tk wk kn rg pl sa rs mt ia ya ysa ypl ysp yrg yrs ywk yov ysg hok hT hya hA
  have h0 : vp_in 0 3 := rf_in3 (r := 0) (by omega)
  have h1 : vp_in 1 3 := rf_in3 (r := 1) (by omega)
  have h2 : vp_in 2 3 := rf_in3 (r := 2) (by omega)
  refine Exists.intro 4 ?_
  refine br_f (by decide) (And.intro h0 (nm_r (e' := upd st 0 0) rfl (And.intro h0 (nm_r (e' := upd kn 0 0) rfl (And.intro h0 (nm_r (e' := upd es 0 0) rfl (And.intro h0 (nm_r (e' := upd sg 0 0) rfl (nm_r (e' := 1) (by decide) ?_)))))))))
  refine br_f (by decide) (And.intro h1 (nm_r (e' := upd (upd st 0 0) 1 0) rfl (And.intro h1 (nm_r (e' := upd (upd kn 0 0) 1 0) rfl (And.intro h1 (nm_r (e' := upd (upd es 0 0) 1 0) rfl (And.intro h1 (nm_r (e' := upd (upd sg 0 0) 1 0) rfl (nm_r (e' := 2) (by decide) ?_)))))))))
  refine br_f (by decide) (And.intro h2 (nm_r (e' := upd (upd (upd st 0 0) 1 0) 2 0) rfl (And.intro h2 (nm_r (e' := upd (upd (upd kn 0 0) 1 0) 2 0) rfl (And.intro h2 (nm_r (e' := upd (upd (upd es 0 0) 1 0) 2 0) rfl (And.intro h2 (nm_r (e' := upd (upd (upd sg 0 0) 1 0) 2 0) rfl (nm_r (e' := 3) (by decide) ?_)))))))))
  refine br_t (by decide) ?_
  refine Exists.intro 4 ?_
  refine br_f (by decide) (And.intro h0 (nm_r (e' := upd ysa 0 0) rfl (nm_r (e' := 1) (by decide) ?_)))
  refine br_f (by decide) (And.intro h1 (nm_r (e' := upd (upd ysa 0 0) 1 0) rfl (nm_r (e' := 2) (by decide) ?_)))
  refine br_f (by decide) (And.intro h2 (nm_r (e' := upd (upd (upd ysa 0 0) 1 0) 2 0) rfl (nm_r (e' := 3) (by decide) ?_)))
  refine br_t (by decide) ?_
  refine rr_in (L := 0) (T := 0) ⟨by omega, fun P h => absurd h (by omega)⟩ (by omega) hya fun r hr => ?_
  have hz : ∀ f : Nat → Int32, upd (upd (upd f 0 0) 1 0) 2 0 r = 0 := by
    intro f
    rcases (show r = 0 ∨ r = 1 ∨ r = 2 by omega) with h | h | h <;> subst h <;> rfl
  refine Or.inl ⟨hz _, hz _, hz _, ?_⟩
  rcases hA r hr with h | ⟨-, -, h, g, p, a, m, j, S, s, q, hS, hs, -⟩
  · exact h.2.2.2
  · exact ⟨S, hS, h.trans hs⟩
end
section
theorem i_vc_start {k : Nat} {u : SX} {v : SY} (I : i_Rel k u v) (hk : k + 4 ≤ 2048) (v1 : Int32) (v2 : Int32) : wpX_start (fun r u' => wpY_start (fun r' v' => r' = r ∧ i_Rel (k + 4) u' v') v v1 v2) u v1 v2 := by
  refine rr_el (P := fun u v => wpX_start (fun r u' => wpY_start (fun r' v' => r' = r ∧ i_Rel (k + 4) u' v') v v1 v2) u v1 v2) ?_ I
  intro L T lk op fi se st ar es ev sg ch va tk wk kn rg pl sa rs mt ia ya ysa ypl ysp yrg yrs ywk yov ysg hok hT hya hA
  have hI : i_Rel (k + 4) (nI L, lk, nI T, op, fi, se, st, ar, es, ev, sg, ch, va, tk, wk, kn, rg, pl, sa, rs, mt, ia) (nI L, lk, nI T, op, ya, se, ysa, ypl, ysp, yrg, yrs, ywk, yov, ysg, ch, va, tk) := rr_in hok (by omega) hya hA
  have bad : (v1 < 0 ∨ nI 3 ≤ v1) → wpX_start (fun r u' => wpY_start (fun r' v' => r' = r ∧ i_Rel (k + 4) u' v') (nI L, lk, nI T, op, ya, se, ysa, ypl, ysp, yrg, yrs, ywk, yov, ysg, ch, va, tk) v1 v2) (nI L, lk, nI T, op, fi, se, st, ar, es, ev, sg, ch, va, tk, wk, kn, rg, pl, sa, rs, mt, ia) v1 v2 := by
    intro c
    unfold wpX_start
    refine xf_bad c ?_
    refine br_f (by decide) ?_
    unfold wpY_start
    refine yf_bad c ?_
    refine br_t rfl ?_
    exact ⟨rfl, hI⟩
  rcases pk_ix v1 (n := 3) (by decide) with c | c | ⟨r, hr, rfl⟩
  · exact bad (Or.inl c)
  · exact bad (Or.inr c)
  have h3 := rf_in3 hr
  rcases hA r hr with ⟨hst, hy, -⟩ | ⟨hst, -, -, g, p, a, m, j, S, s, q, -, -, -, hF, -, e1, -⟩
  rotate_left
  · unfold wpX_start
    refine xf_good hr ?_
    refine br_t rfl (And.intro h3 (br_f (by rw [rf_c3 hr]; exact hst) ?_))
    unfold wpY_start
    refine yf_good hr ?_
    refine br_f (by decide) (And.intro h3 (br_f ?_ (And.intro rfl hI)))
    rw [rf_c3 hr, e1]
    rcases rm_Fs hF with h | h | h | h <;> rw [h] <;> decide
  obtain ⟨g', t', e', p', a', m', j', k', yk', s', q', hR, hF, hw, hX, hY⟩ := rl_lock (r := r) (L := L) (S := 0) (T := T) (x := v2) (lk := 1) (op := op) (fi := fi) (se := se) (st := upd st r 1) (ar := upd ar r v2) (es := es) (ev := ev) (sg := upd sg r (nI 0)) (ch := ch) (va := va) (tk := tk) (wk := wk) (kn := upd kn r 1) (rg := rg) (pl := pl) (sa := sa) (rs := rs) (mt := mt) (ia := ia) (ya := ya) (ysa := ysa) (ypl := ypl) (ysp := ysp) (yrg := yrg) (yrs := yrs) (ywk := ywk) (yov := yov) (ysg := upd ysg r (nI 0)) (ytk := tk) hr hok (by omega) pk_us pk_us hya (by omega) 2460 (upd (fun _ => 0) 0 v2) (ra_vw 24 r tk) (ra_vw 40 r ev) 0 0 0 0 0 0 (ywk r) (ysa r) (And.intro rfl (And.intro rfl (And.intro rfl rfl))) (by omega) (by omega) (by omega)
  rw [ra_slv, ra_slv] at hX
  rw [ra_slv, ra_ue (show ywk r = ywk r from rfl), ra_ue (show ysa r = ysa r from rfl)] at hY
  have hC : i_Rel (k + 4) (nI L, 1, nI T, op, fi, se, upd st r 1, upd ar r v2, upd es r (nI m'), ra_sl 40 r e' ev, upd sg r (nI 0), ch, va, ra_sl 24 r t' tk, upd wk r k', upd kn r 1, ra_sl 4 r g' rg, upd pl r p', upd sa r s', upd rs r q', upd mt r (nI m'), upd ia r (nI a')) (nI L, 1, nI T, op, ya, se, upd ysa r s', upd ypl r p', upd ysp r (nI a'), ra_sl 4 r g' yrg, upd yrs r q', upd ywk r yk', upd yov r (nI m'), upd ysg r (nI 0), ch, va, ra_sl 24 r t' tk) := by
    refine rr_close (j := j') hr hok (by omega) hya (fun r' hr' h => ?_) (by rw [pk_us]; decide) (by decide) (Nat.zero_le 24) pk_us pk_us (by rw [pk_us]; exact hR) hF hw
    simp only [pk_un h]
    exact rr_lk (hA r' hr') (by decide)
  unfold wpX_start
  refine xf_good hr ?_
  refine br_t rfl (And.intro h3 (br_t (by rw [rf_c3 hr]; exact hst) (And.intro h3 (nm_r (e' := upd st r 1) (by rw [rf_c3 hr]; rfl) (And.intro h3 (nm_r (e' := upd ar r v2) (by rw [rf_c3 hr]) (And.intro h3 (nm_r (e' := upd es r (nI 0)) (by rw [rf_c3 hr]; rfl) (And.intro h3 (nm_r (e' := upd sg r (nI 0)) (by rw [rf_c3 hr]; rfl) (And.intro h3 (nm_r (e' := upd wk r 0) (by rw [rf_c3 hr]) ?_))))))))))))
  refine xf_begin (x := v2) (nI L, 1, nI T, op, fi, se, upd st r 1, upd ar r v2, upd es r (nI m'), ra_sl 40 r e' ev, upd sg r (nI 0), ch, va, ra_sl 24 r t' tk, upd wk r k', upd kn r 1, ra_sl 4 r g' rg, upd pl r p', upd sa r s', upd rs r q', upd mt r (nI m'), upd ia r (nI a')) hr pk_us (fun Q hQ => Exists.intro 2462 (hX Q 2462 (by omega) hQ)) (And.intro h3 ?_)
  rw [rf_c3 hr, pk_us]
  have i0 : nI r * 4 + (0 : Int32) = nI (4 * r + 0) := rf_4k r 0
  have i1 : nI r * 4 + (1 : Int32) = nI (4 * r + 1) := rf_4k r 1
  have i2 : nI r * 4 + (2 : Int32) = nI (4 * r + 2) := rf_4k r 2
  have i3 : nI r * 4 + (3 : Int32) = nI (4 * r + 3) := rf_4k r 3
  unfold wpY_start
  refine yf_good hr ?_
  refine br_f (by decide) (And.intro h3 (br_t (by rw [rf_c3 hr]; exact hy) (Exists.intro 5 ?_)))
  refine br_f (by decide) (And.intro (by rw [i0]; exact vp_in_nI (by omega) (by decide)) (nm_r (e' := upd yrg (4 * r + 0) 0) (by rw [i0, nI_clamp (by omega)]) (nm_r (e' := 1) (by decide) ?_)))
  refine br_f (by decide) (And.intro (by rw [i1]; exact vp_in_nI (by omega) (by decide)) (nm_r (e' := upd (upd yrg (4 * r + 0) 0) (4 * r + 1) 0) (by rw [i1, nI_clamp (by omega)]) (nm_r (e' := 2) (by decide) ?_)))
  refine br_f (by decide) (And.intro (by rw [i2]; exact vp_in_nI (by omega) (by decide)) (nm_r (e' := upd (upd (upd yrg (4 * r + 0) 0) (4 * r + 1) 0) (4 * r + 2) 0) (by rw [i2, nI_clamp (by omega)]) (nm_r (e' := 3) (by decide) ?_)))
  refine br_f (by decide) (And.intro (by rw [i3]; exact vp_in_nI (by omega) (by decide)) (nm_r (e' := ra_sl 4 r (fun _ => 0) yrg) (by rw [i3, nI_clamp (by omega), ra_z4]) (nm_r (e' := 4) (by decide) ?_)))
  refine br_t (by decide) (And.intro (by rw [rf_4]; exact vp_in_nI (by omega) (by decide)) (nm_r (e' := ra_sl 4 r (upd (fun _ => 0) 0 v2) yrg) (by rw [rf_4, nI_clamp (by omega)]; exact ra_slu (q := 0) (by omega)) (And.intro h3 (nm_r (e' := upd ypl r 0) (by rw [rf_c3 hr]) (And.intro h3 (nm_r (e' := upd ysp r (nI 0)) (by rw [rf_c3 hr]; rfl) (And.intro h3 (nm_r (e' := upd yov r (nI 0)) (by rw [rf_c3 hr]; rfl) (And.intro h3 (nm_r (e' := upd ysg r (nI 0)) (by rw [rf_c3 hr]; rfl) (And.intro h3 (nm_r (e' := upd yrs r 0) (by rw [rf_c3 hr]) ?_))))))))))))
  refine Exists.intro 2462 (hY _ 2462 (by omega) (And.intro h3 (And.intro (by rw [rf_c3 hr, pk_us]) ?_)))
  exact hC
theorem i_vc_answer {k : Nat} {u : SX} {v : SY} (I : i_Rel k u v) (hk : k + 4 ≤ 2048) (v1 : Int32) (v2 : Int32) : wpX_answer (fun r u' => wpY_answer (fun r' v' => r' = r ∧ i_Rel (k + 4) u' v') v v1 v2) u v1 v2 := by
  refine rr_el (P := fun u v => wpX_answer (fun r u' => wpY_answer (fun r' v' => r' = r ∧ i_Rel (k + 4) u' v') v v1 v2) u v1 v2) ?_ I
  intro L T lk op fi se st ar es ev sg ch va tk wk kn rg pl sa rs mt ia ya ysa ypl ysp yrg yrs ywk yov ysg hok hT hya hA
  have hI : i_Rel (k + 4) (nI L, lk, nI T, op, fi, se, st, ar, es, ev, sg, ch, va, tk, wk, kn, rg, pl, sa, rs, mt, ia) (nI L, lk, nI T, op, ya, se, ysa, ypl, ysp, yrg, yrs, ywk, yov, ysg, ch, va, tk) := rr_in hok (by omega) hya hA
  have bad : (v1 < 0 ∨ nI 3 ≤ v1) → wpX_answer (fun r u' => wpY_answer (fun r' v' => r' = r ∧ i_Rel (k + 4) u' v') (nI L, lk, nI T, op, ya, se, ysa, ypl, ysp, yrg, yrs, ywk, yov, ysg, ch, va, tk) v1 v2) (nI L, lk, nI T, op, fi, se, st, ar, es, ev, sg, ch, va, tk, wk, kn, rg, pl, sa, rs, mt, ia) v1 v2 := by
    intro c
    unfold wpX_answer
    refine xf_bad c ?_
    refine br_f (by decide) ?_
    unfold wpY_answer
    refine yf_bad c ?_
    refine br_t rfl ?_
    exact ⟨rfl, hI⟩
  rcases pk_ix v1 (n := 3) (by decide) with c | c | ⟨r, hr, rfl⟩
  · exact bad (Or.inl c)
  · exact bad (Or.inr c)
  have h3 := rf_in3 hr
  by_cases hst : st r = 0
  · have hy : ysa r = 0 := by
      rcases hA r hr with h | h
      · exact h.2.1
      · exact absurd hst h.1
    unfold wpX_answer
    refine xf_good hr ?_
    refine br_t rfl ?_
    refine xf_st0 hr hst ?_
    refine br_f (by decide) ?_
    unfold wpY_answer
    refine yf_good hr ?_
    refine br_f (by decide) (And.intro h3 (br_f (by rw [rf_c3 hr, hy]; decide) (And.intro rfl hI)))
  obtain ⟨kn', g, p, a, m, j, S, s, q, w, yw, hkn, hkn', hlk, hS, hs, hys, hR, hF, hw, hZ, hX⟩ := rr_state (fN := nI T) hr hok (hA r hr) hst
  have hoth : ∀ r', r' < 3 → r' ≠ r → rr_run L lk op fi se (st r') (ar r') (es r') (sg r') (wk r') (kn' r') (pl r') (sa r') (rs r') (mt r') (ia r') (ra_vw 40 r' ev) (ra_vw 24 r' ch) (ra_vw 24 r' tk) (ra_vw 4 r' rg) (ysa r') (ypl r') (ysp r') (yrs r') (ywk r') (yov r') (ysg r') (ra_vw 4 r' yrg) := fun r' hr' h => by rw [hkn' r' h]; exact hA r' hr'
  rw [hZ]
  unfold wpX_answer
  refine xf_good hr ?_
  refine br_t rfl ?_
  refine xf_st1 hr hst hX ?_
  have e1 : upd ysa r s (nI r).toNatClampNeg = s := by rw [rf_c3 hr, pk_us]
  by_cases c : s = 1
  rotate_left
  · refine br_f c ?_
    unfold wpY_answer
    refine yf_good hr ?_
    exact br_f (by decide) (And.intro h3 (br_f (by rw [e1]; exact c) (And.intro rfl (rr_close hr hok (by omega) hya hoth hst hlk hS hs hys hR hF hw))))
  obtain ⟨P, hP, rfl, ha, hm, rfl, ho⟩ := rm_F1 hF c (by decide)
  subst c
  obtain rfl : w = 0 := by
    rcases hw with h | h
    · exact absurd h.1 (by decide)
    · exact h.2
  have ho5 : op P = 5 := ho
  have hL := hok.1
  obtain ⟨g', t', e', p', a', m', j', k', yk', s', q', hR', hF', hw', hX', hY'⟩ := rl_lock (r := r) (L := L) (S := S) (T := T) (x := ar r) (lk := lk) (op := op) (fi := fi) (se := se) (st := st) (ar := ar) (es := es) (ev := ev) (sg := sg) (ch := ch) (va := va) (tk := tk) (wk := wk) (kn := kn') (rg := rg) (pl := pl) (sa := sa) (rs := rs) (mt := mt) (ia := ia) (ya := ya) (ysa := ysa) (ypl := ypl) (ysp := ysp) (yrg := yrg) (yrs := yrs) (ywk := ywk) (yov := yov) (ysg := ysg) (ytk := tk) hr hok hS hs hys hya (by omega) 2460 (rm_wg op fi g P v2) (ra_vw 24 r tk) (upd (ra_vw 40 r ev) m v2) (nI (P + 1)) 0 (m + 1) 1 0 (j + 1) yw 1 (rm_Rw (rm_cong (fun q hq => pk_un (by omega)) hR) hP ha (Or.inl ho5) hm pk_us) (by omega) (by omega) (by omega)
  have hC : i_Rel (k + 4) (nI L, lk, nI T, op, fi, se, st, ar, upd es r (nI m'), ra_sl 40 r e' ev, sg, ch, va, ra_sl 24 r t' tk, upd wk r k', kn', ra_sl 4 r g' rg, upd pl r p', upd sa r s', upd rs r q', upd mt r (nI m'), upd ia r (nI a')) (nI L, lk, nI T, op, ya, se, upd ysa r s', upd ypl r p', upd ysp r (nI a'), ra_sl 4 r g' yrg, upd yrs r q', upd ywk r yk', upd yov r (nI m'), ysg, ch, va, ra_sl 24 r t' tk) :=
    rr_close (j := j') hr hok (by omega) hya hoth hst hlk hS hs hys hR' hF' hw'
  refine br_t rfl ?_
  refine xf_addEvent hr hm ?_
  refine xf_carryW (nI L, lk, nI T, op, fi, se, st, ar, upd es r (nI m'), ra_sl 40 r e' ev, sg, ch, va, ra_sl 24 r t' tk, upd wk r k', kn', ra_sl 4 r g' rg, upd pl r p', upd sa r s', upd rs r q', upd mt r (nI m'), upd ia r (nI a')) hr hL hP (by omega) (by omega) (Or.inl ho5) (fun Q hQ => Exists.intro 2462 ?_) (And.intro h3 ?_)
  · rw [pk_us]
    exact hX' Q 2462 (by omega) hQ
  rw [rf_c3 hr, pk_us]
  unfold wpY_answer
  refine yf_good hr ?_
  refine br_f (by decide) (And.intro h3 (br_t e1 ?_))
  refine yf_past1 hr hL hP hya (by rw [ho5]; decide) ?_
  refine Exists.intro 2462 (hY' _ 2462 (by omega) (And.intro h3 (And.intro (by rw [rf_c3 hr, pk_us]) ?_)))
  exact hC
theorem i_vc_signal {k : Nat} {u : SX} {v : SY} (I : i_Rel k u v) (hk : k + 4 ≤ 2048) (v1 : Int32) (v2 : Int32) (v3 : Int32) : wpX_signal (fun r u' => wpY_signal (fun r' v' => r' = r ∧ i_Rel (k + 4) u' v') v v1 v2 v3) u v1 v2 v3 := by
  refine rr_el (P := fun u v => wpX_signal (fun r u' => wpY_signal (fun r' v' => r' = r ∧ i_Rel (k + 4) u' v') v v1 v2 v3) u v1 v2 v3) ?_ I
  intro L T lk op fi se st ar es ev sg ch va tk wk kn rg pl sa rs mt ia ya ysa ypl ysp yrg yrs ywk yov ysg hok hT hya hA
  have hI : i_Rel (k + 4) (nI L, lk, nI T, op, fi, se, st, ar, es, ev, sg, ch, va, tk, wk, kn, rg, pl, sa, rs, mt, ia) (nI L, lk, nI T, op, ya, se, ysa, ypl, ysp, yrg, yrs, ywk, yov, ysg, ch, va, tk) := rr_in hok (by omega) hya hA
  have bad : (v1 < 0 ∨ nI 3 ≤ v1) → wpX_signal (fun r u' => wpY_signal (fun r' v' => r' = r ∧ i_Rel (k + 4) u' v') (nI L, lk, nI T, op, ya, se, ysa, ypl, ysp, yrg, yrs, ywk, yov, ysg, ch, va, tk) v1 v2 v3) (nI L, lk, nI T, op, fi, se, st, ar, es, ev, sg, ch, va, tk, wk, kn, rg, pl, sa, rs, mt, ia) v1 v2 v3 := by
    intro c
    unfold wpX_signal
    refine xf_bad c ?_
    refine br_f (by decide) ?_
    unfold wpY_signal
    refine yf_bad c ?_
    refine br_t rfl ?_
    exact ⟨rfl, hI⟩
  rcases pk_ix v1 (n := 3) (by decide) with c | c | ⟨r, hr, rfl⟩
  · exact bad (Or.inl c)
  · exact bad (Or.inr c)
  have h3 := rf_in3 hr
  by_cases hst : st r = 0
  · have hy : ysa r = 0 := by
      rcases hA r hr with h | h
      · exact h.2.1
      · exact absurd hst h.1
    unfold wpX_signal
    refine xf_good hr ?_
    refine br_t rfl ?_
    refine xf_st0 hr hst ?_
    refine br_t rfl ?_
    unfold wpY_signal
    refine yf_good hr ?_
    refine br_f (by decide) (And.intro h3 (br_t (by rw [rf_c3 hr]; exact hy) (And.intro rfl hI)))
  obtain ⟨kn', g, p, a, m, j, S, s, q, w, yw, hkn, hkn', hlk, hS, hs, hys, hR, hF, hw, hZ, hX⟩ := rr_state (fN := nI T) hr hok (hA r hr) hst
  have hoth : ∀ r', r' < 3 → r' ≠ r → rr_run L lk op fi se (st r') (ar r') (es r') (sg r') (wk r') (kn' r') (pl r') (sa r') (rs r') (mt r') (ia r') (ra_vw 40 r' ev) (ra_vw 24 r' ch) (ra_vw 24 r' tk) (ra_vw 4 r' rg) (ysa r') (ypl r') (ysp r') (yrs r') (ywk r') (yov r') (ysg r') (ra_vw 4 r' yrg) := fun r' hr' h => by rw [hkn' r' h]; exact hA r' hr'
  have hI2 : i_Rel (k + 4) (nI L, lk, nI T, op, fi, se, st, ar, upd es r (nI m), ra_sl 40 r (ra_vw 40 r ev) ev, sg, ch, va, ra_sl 24 r (ra_vw 24 r tk) tk, upd wk r w, kn', ra_sl 4 r g rg, upd pl r p, upd sa r s, upd rs r q, upd mt r (nI m), upd ia r (nI a)) (nI L, lk, nI T, op, ya, se, upd ysa r s, upd ypl r p, upd ysp r (nI a), ra_sl 4 r g yrg, upd yrs r q, upd ywk r yw, upd yov r (nI m), ysg, ch, va, ra_sl 24 r (ra_vw 24 r tk) tk) :=
    rr_close hr hok (by omega) hya hoth hst hlk hS hs hys hR hF hw
  rw [hZ]
  unfold wpX_signal
  refine xf_good hr ?_
  refine br_t rfl ?_
  refine xf_st1 hr hst hX ?_
  have e1 : upd ysa r s (nI r).toNatClampNeg = s := by rw [rf_c3 hr, pk_us]
  have n0 : ¬ s = 0 := by rcases rm_Fs hF with h | h | h | h <;> rw [h] <;> decide
  refine br_f n0 ?_
  by_cases c4 : s = 4
  · refine br_t c4 ?_
    unfold wpY_signal
    refine yf_good hr ?_
    exact br_f (by decide) (And.intro h3 (br_f (by rw [e1]; exact n0) (And.intro h3 (br_t (by rw [e1]; exact c4) (And.intro rfl hI2)))))
  refine br_f c4 (And.intro h3 ?_)
  have e2 : sg (nI r).toNatClampNeg = nI S := by rw [rf_c3 hr, hs]
  have e3 : ysg (nI r).toNatClampNeg = nI S := by rw [rf_c3 hr, hys]
  by_cases c24 : S < 24
  rotate_left
  · obtain rfl : S = 24 := by omega
    refine br_f (by rw [e2]; exact nI_nlt (b := 24) (by omega) (by omega)) ?_
    unfold wpY_signal
    refine yf_good hr ?_
    exact br_f (by decide) (And.intro h3 (br_f (by rw [e1]; exact n0) (And.intro h3 (br_f (by rw [e1]; exact c4) (And.intro h3 (br_t (by rw [e3]; rfl) (And.intro rfl hI2)))))))
  have h72 : vp_in (nI (24 * r + S)) 72 := vp_in_nI (by omega) (by decide)
  have hc : (nI (24 * r + S)).toNatClampNeg = 24 * r + S := nI_clamp (by omega)
  have hothS : ∀ r', r' < 3 → r' ≠ r → rr_run L lk op fi se (st r') (ar r') (es r') ((upd sg r (nI (S + 1))) r') (wk r') (kn' r') (pl r') (sa r') (rs r') (mt r') (ia r') (ra_vw 40 r' ev) (ra_vw 24 r' (upd ch (24 * r + S) (v2 &&& 1))) (ra_vw 24 r' tk) (ra_vw 4 r' rg) (ysa r') (ypl r') (ysp r') (yrs r') (ywk r') (yov r') ((upd ysg r (nI (S + 1))) r') (ra_vw 4 r' yrg) := by
    intro r' hr' h
    simp only [pk_un h, ra_vun h c24]
    exact hoth r' hr' h
  refine br_t (by rw [e2]; exact nI_lt (b := 24) c24 (by decide)) (And.intro h3 (nm_r (e' := nI (24 * r + S)) (by rw [e2, rf_24i]) (And.intro h72 (nm_r (e' := upd ch (24 * r + S) (v2 &&& 1)) (by rw [hc]) (And.intro h72 (nm_r (e' := upd va (24 * r + S) v3) (by rw [hc]) (And.intro h72 (nm_r (e' := ra_sl 24 r (upd (ra_vw 24 r tk) S 0) tk) (by rw [hc]; exact ra_slu c24) (And.intro h3 (And.intro h3 (nm_r (e' := upd sg r (nI (S + 1))) (by rw [e2, nI_1, rf_c3 hr]) ?_)))))))))))
  by_cases cc : s = 3
  rotate_left
  · refine br_f cc (And.intro h3 ?_)
    rw [rf_c3 hr, pk_us]
    unfold wpY_signal
    refine yf_good hr ?_
    refine br_f (by decide) (And.intro h3 (br_f (by rw [e1]; exact n0) (And.intro h3 (br_f (by rw [e1]; exact c4) (And.intro h3 (br_f (by rw [e3]; exact fun z => absurd ((nI_eq (b := 24) (by omega) (by decide)).mp z) (by omega)) ?_))))))
    refine And.intro h3 (nm_r (e' := nI (24 * r + S)) (by rw [e3, rf_24i]) (And.intro h72 (nm_r (e' := upd ch (24 * r + S) (v2 &&& 1)) (by rw [hc]) (And.intro h72 (nm_r (e' := upd va (24 * r + S) v3) (by rw [hc]) (And.intro h72 (nm_r (e' := ra_sl 24 r (upd (ra_vw 24 r tk) S 0) tk) (by rw [hc]; exact ra_slu c24) (And.intro h3 (And.intro h3 (nm_r (e' := upd ysg r (nI (S + 1))) (by rw [e3, nI_1, rf_c3 hr]) (And.intro h3 (br_f (by rw [e1]; exact cc) (And.intro h3 ?_)))))))))))))
    refine And.intro e1 ?_
    exact rr_close (S := S + 1) hr hok (by omega) hya hothS hst hlk (by omega) pk_us pk_us hR (rm_Fx cc hF) hw
  obtain ⟨P, hP, rfl, ha, hm, rfl, ho⟩ := rm_F1 hF cc (by decide)
  subst cc
  obtain rfl : w = 0 := by
    rcases hw with h | h
    · exact absurd h.1 (by decide)
    · exact h.2
  have hL := hok.1
  obtain ⟨g', t', e', p', a', m', j', k', yk', s', q', hR', hF', hw', hX', hY'⟩ := rl_lock (r := r) (L := L) (S := S + 1) (T := T) (x := ar r) (lk := lk) (op := op) (fi := fi) (se := se) (st := st) (ar := ar) (es := es) (ev := ev) (sg := upd sg r (nI (S + 1))) (ch := upd ch (24 * r + S) (v2 &&& 1)) (va := upd va (24 * r + S) v3) (tk := tk) (wk := wk) (kn := kn') (rg := rg) (pl := pl) (sa := sa) (rs := rs) (mt := mt) (ia := ia) (ya := ya) (ysa := ysa) (ypl := ypl) (ysp := ysp) (yrg := yrg) (yrs := yrs) (ywk := ywk) (yov := yov) (ysg := upd ysg r (nI (S + 1))) (ytk := tk) hr hok (by omega) pk_us pk_us hya (by omega) 2460 g (upd (ra_vw 24 r tk) S 0) (ra_vw 40 r ev) (nI P) a m 0 0 j yw 3 hR (by omega) (by omega) (by omega)
  have hC : i_Rel (k + 4) (nI L, lk, nI T, op, fi, se, st, ar, upd es r (nI m'), ra_sl 40 r e' ev, upd sg r (nI (S + 1)), upd ch (24 * r + S) (v2 &&& 1), upd va (24 * r + S) v3, ra_sl 24 r t' tk, upd wk r k', kn', ra_sl 4 r g' rg, upd pl r p', upd sa r s', upd rs r q', upd mt r (nI m'), upd ia r (nI a')) (nI L, lk, nI T, op, ya, se, upd ysa r s', upd ypl r p', upd ysp r (nI a'), ra_sl 4 r g' yrg, upd yrs r q', upd ywk r yk', upd yov r (nI m'), upd ysg r (nI (S + 1)), upd ch (24 * r + S) (v2 &&& 1), upd va (24 * r + S) v3, ra_sl 24 r t' tk) :=
    rr_close (S := S + 1) (j := j') hr hok (by omega) hya hothS hst hlk (by omega) pk_us pk_us hR' hF' hw'
  refine br_t rfl ?_
  refine xf_carry0 (nI L, lk, nI T, op, fi, se, st, ar, upd es r (nI m'), ra_sl 40 r e' ev, upd sg r (nI (S + 1)), upd ch (24 * r + S) (v2 &&& 1), upd va (24 * r + S) v3, ra_sl 24 r t' tk, upd wk r k', kn', ra_sl 4 r g' rg, upd pl r p', upd sa r s', upd rs r q', upd mt r (nI m'), upd ia r (nI a')) hr ha (fun Q hQ => Exists.intro 2462 (hX' Q 2462 (by omega) hQ)) (And.intro h3 ?_)
  rw [rf_c3 hr, pk_us]
  unfold wpY_signal
  refine yf_good hr ?_
  refine br_f (by decide) (And.intro h3 (br_f (by rw [e1]; exact n0) (And.intro h3 (br_f (by rw [e1]; exact c4) (And.intro h3 (br_f (by rw [e3]; exact fun z => absurd ((nI_eq (b := 24) (by omega) (by decide)).mp z) (by omega)) ?_))))))
  refine And.intro h3 (nm_r (e' := nI (24 * r + S)) (by rw [e3, rf_24i]) (And.intro h72 (nm_r (e' := upd ch (24 * r + S) (v2 &&& 1)) (by rw [hc]) (And.intro h72 (nm_r (e' := upd va (24 * r + S) v3) (by rw [hc]) (And.intro h72 (nm_r (e' := ra_sl 24 r (upd (ra_vw 24 r tk) S 0) tk) (by rw [hc]; exact ra_slu c24) (And.intro h3 (And.intro h3 (nm_r (e' := upd ysg r (nI (S + 1))) (by rw [e3, nI_1, rf_c3 hr]) (And.intro h3 (br_t e1 ?_))))))))))))
  refine Exists.intro 2462 (hY' _ 2462 (by omega) (And.intro h3 (And.intro (by rw [rf_c3 hr, pk_us]) ?_)))
  exact hC
end
section
def rp_X (post : Int32 → SX → Prop) (n : Nat) (x2 x3 : Int32) (u : SX) : Prop := match u with
  | (fL, lk, fN, op, fi, se, st, ar, es, ev, sg, ch, va, tk, wk, kn, rg, pl, sa, rs, mt, ia) => wX_pass_28 post n x2 x3 fL lk fN op fi se st ar es ev sg ch va tk wk kn rg pl sa rs mt ia
def rp_Y (post : Int32 → SY → Prop) (n : Nat) (x2 x3 : Int32) (v : SY) : Prop := match v with
  | (fL, lk, fN, op, ya, se, ysa, ypl, ysp, yrg, yrs, ywk, yov, ysg, ch, va, ytk) => wY_pass_28 post n x2 x3 fL lk fN op ya se ysa ypl ysp yrg yrs ywk yov ysg ch va ytk
theorem rp_endX {post : Int32 → SX → Prop} {n : Nat} {x2 : Int32} {u : SX} (h : post x2 u) : rp_X post (n + 1) x2 (nI 3) u := by
  obtain ⟨z1, z2, z3, z4, z5, z6, z7, z8, z9, z10, z11, z12, z13, z14, z15, z16, z17, z18, z19, z20, z21, z22⟩ := u
  exact br_t (by decide) h
theorem rp_endY {post : Int32 → SY → Prop} {n : Nat} {x2 : Int32} {v : SY} (h : post x2 v) : rp_Y post (n + 1) x2 (nI 3) v := by
  obtain ⟨z1, z2, z3, z4, z5, z6, z7, z8, z9, z10, z11, z12, z13, z14, z15, z16, z17⟩ := v
  exact br_t (by decide) h
theorem rp_step {k r : Nat} {u : SX} {v : SY} (I : i_Rel k u v) (hk : k ≤ 2048) (hr : r < 3) : ∃ (u' : SX) (v' : SY) (f : Int32 → Int32), i_Rel k u' v' ∧
    (∀ (post : Int32 → SX → Prop) (n : Nat) (x2 : Int32), rp_X post n (f x2) (nI (r + 1)) u' → rp_X post (n + 1) x2 (nI r) u) ∧
    (∀ (post : Int32 → SY → Prop) (n : Nat) (x2 : Int32), rp_Y post n (f x2) (nI (r + 1)) v' → rp_Y post (n + 1) x2 (nI r) v) := by
  refine rr_el (P := fun u v => ∃ (u' : SX) (v' : SY) (f : Int32 → Int32), i_Rel k u' v' ∧
    (∀ (post : Int32 → SX → Prop) (n : Nat) (x2 : Int32), rp_X post n (f x2) (nI (r + 1)) u' → rp_X post (n + 1) x2 (nI r) u) ∧
    (∀ (post : Int32 → SY → Prop) (n : Nat) (x2 : Int32), rp_Y post n (f x2) (nI (r + 1)) v' → rp_Y post (n + 1) x2 (nI r) v)) ?_ I
  intro L T lk op fi se st ar es ev sg ch va tk wk kn rg pl sa rs mt ia ya ysa ypl ysp yrg yrs ywk yov ysg hok hT hya hA
  have hI : i_Rel k (nI L, lk, nI T, op, fi, se, st, ar, es, ev, sg, ch, va, tk, wk, kn, rg, pl, sa, rs, mt, ia) (nI L, lk, nI T, op, ya, se, ysa, ypl, ysp, yrg, yrs, ywk, yov, ysg, ch, va, tk) := rr_in hok hT hya hA
  have h3 := rf_in3 hr
  have l3 : ¬ (3 : Int32) ≤ nI r := nI_ge (b := 3) hr (by decide)
  by_cases hst : st r = 0
  · have hy : ysa r = 0 := by
      rcases hA r hr with h | h
      · exact h.2.1
      · exact absurd hst h.1
    refine ⟨(nI L, lk, nI T, op, fi, se, st, ar, es, ev, sg, ch, va, tk, wk, kn, rg, pl, sa, rs, mt, ia), (nI L, lk, nI T, op, ya, se, ysa, ypl, ysp, yrg, yrs, ywk, yov, ysg, ch, va, tk), id, hI, fun post n x2 h => ?_, fun post n x2 h => ?_⟩
    · refine br_f l3 ?_
      refine xf_st0 hr hst ?_
      refine br_f (by decide) (nm_r (e' := nI (r + 1)) (nI_1 r) ?_)
      exact h
    · refine br_f l3 (And.intro h3 (br_f (by rw [rf_c3 hr, hy]; decide) (nm_r (e' := nI (r + 1)) (nI_1 r) ?_)))
      exact h
  obtain ⟨kn', g, p, a, m, j, S, s, q, w, yw, hkn, hkn', hlk, hS, hs, hys, hR, hF, hw, hZ, hX⟩ := rr_state (fN := nI T) hr hok (hA r hr) hst
  have hoth : ∀ r', r' < 3 → r' ≠ r → rr_run L lk op fi se (st r') (ar r') (es r') (sg r') (wk r') (kn' r') (pl r') (sa r') (rs r') (mt r') (ia r') (ra_vw 40 r' ev) (ra_vw 24 r' ch) (ra_vw 24 r' tk) (ra_vw 4 r' rg) (ysa r') (ypl r') (ysp r') (yrs r') (ywk r') (yov r') (ysg r') (ra_vw 4 r' yrg) := fun r' hr' h => by rw [hkn' r' h]; exact hA r' hr'
  have hI2 : i_Rel k (nI L, lk, nI T, op, fi, se, st, ar, upd es r (nI m), ra_sl 40 r (ra_vw 40 r ev) ev, sg, ch, va, ra_sl 24 r (ra_vw 24 r tk) tk, upd wk r w, kn', ra_sl 4 r g rg, upd pl r p, upd sa r s, upd rs r q, upd mt r (nI m), upd ia r (nI a)) (nI L, lk, nI T, op, ya, se, upd ysa r s, upd ypl r p, upd ysp r (nI a), ra_sl 4 r g yrg, upd yrs r q, upd ywk r yw, upd yov r (nI m), ysg, ch, va, ra_sl 24 r (ra_vw 24 r tk) tk) :=
    rr_close hr hok hT hya hoth hst hlk hS hs hys hR hF hw
  rw [hZ]
  have e1 : upd ysa r s (nI r).toNatClampNeg = s := by rw [rf_c3 hr, pk_us]
  by_cases c : s = 2
  rotate_left
  · refine ⟨_, _, id, hI2, fun post n x2 h => ?_, fun post n x2 h => ?_⟩
    · refine br_f l3 ?_
      refine xf_st1 hr hst hX ?_
      refine br_f c (nm_r (e' := nI (r + 1)) (nI_1 r) ?_)
      exact h
    · refine br_f l3 (And.intro h3 (br_f (by rw [e1]; exact c) (nm_r (e' := nI (r + 1)) (nI_1 r) ?_)))
      exact h
  have e2 : upd wk r w (nI r).toNatClampNeg = w := by rw [rf_c3 hr, pk_us]
  have e3 : upd ywk r yw (nI r).toNatClampNeg = w := by
    rw [rf_c3 hr, pk_us]
    rcases hw with h | h
    · exact h.2.2
    · exact absurd c h.1
  by_cases d : nI T < w
  · refine ⟨_, _, id, hI2, fun post n x2 h => ?_, fun post n x2 h => ?_⟩
    · refine br_f l3 ?_
      refine xf_st1 hr hst hX ?_
      refine br_t c (And.intro h3 (br_t (by rw [e2]; exact d) (nm_r (e' := nI (r + 1)) (nI_1 r) ?_)))
      exact h
    · refine br_f l3 (And.intro h3 (br_t (by rw [e1]; exact c) (And.intro h3 (br_t (by rw [e3]; exact d) (nm_r (e' := nI (r + 1)) (nI_1 r) ?_)))))
      exact h
  obtain ⟨P, hP, rfl, ha, hm, rfl, ho⟩ := rm_F1 hF c (by decide)
  subst c
  have ho6 : op P = 6 := ho
  have hL := hok.1
  have hg : rm_wg op fi g P 0 = g := if_pos ho6
  obtain ⟨g', t', e', p', a', m', j', k', yk', s', q', hR', hF', hw', hX', hY'⟩ := rl_lock (r := r) (L := L) (S := S) (T := T) (x := ar r) (lk := lk) (op := op) (fi := fi) (se := se) (st := st) (ar := ar) (es := es) (ev := ev) (sg := sg) (ch := ch) (va := va) (tk := tk) (wk := wk) (kn := kn') (rg := rg) (pl := pl) (sa := sa) (rs := rs) (mt := mt) (ia := ia) (ya := ya) (ysa := ysa) (ypl := ypl) (ysp := ysp) (yrg := yrg) (yrs := yrs) (ywk := ywk) (yov := yov) (ysg := ysg) (ytk := tk) hr hok hS hs hys hya (by omega) 2460 (rm_wg op fi g P 0) (ra_vw 24 r tk) (upd (ra_vw 40 r ev) m 0) (nI (P + 1)) 0 (m + 1) 1 0 (j + 1) yw 2 (rm_Rw (rm_cong (fun q hq => pk_un (by omega)) hR) hP ha (Or.inr (Or.inl ho6)) hm pk_us) (by omega) (by omega) (by omega)
  have hC : i_Rel k (nI L, lk, nI T, op, fi, se, st, ar, upd es r (nI m'), ra_sl 40 r e' ev, sg, ch, va, ra_sl 24 r t' tk, upd wk r k', kn', ra_sl 4 r g' rg, upd pl r p', upd sa r s', upd rs r q', upd mt r (nI m'), upd ia r (nI a')) (nI L, lk, nI T, op, ya, se, upd ysa r s', upd ypl r p', upd ysp r (nI a'), ra_sl 4 r g' yrg, upd yrs r q', upd ywk r yk', upd yov r (nI m'), ysg, ch, va, ra_sl 24 r t' tk) :=
    rr_close (j := j') hr hok hT hya hoth hst hlk hS hs hys hR' hF' hw'
  rw [hg] at hY'
  refine ⟨_, _, fun x => x + 1, hC, fun post n x2 h => ?_, fun post n x2 h => ?_⟩
  · refine br_f l3 ?_
    refine xf_st1 hr hst hX ?_
    refine br_t rfl (And.intro h3 (br_f (by rw [e2]; exact d) (And.intro h3 (nm_r (e' := upd wk r 0) (by rw [rf_c3 hr, ra_uu]) ?_))))
    refine xf_addEvent hr hm ?_
    refine xf_carryW (nI L, lk, nI T, op, fi, se, st, ar, upd es r (nI m'), ra_sl 40 r e' ev, sg, ch, va, ra_sl 24 r t' tk, upd wk r k', kn', ra_sl 4 r g' rg, upd pl r p', upd sa r s', upd rs r q', upd mt r (nI m'), upd ia r (nI a')) hr hL hP (by omega) (by omega) (Or.inr (Or.inl ho6)) (fun Q hQ => Exists.intro 2462 ?_) (nm_e (nm_r (e' := nI (r + 1)) (nI_1 r) ?_))
    · rw [pk_us]
      exact hX' Q 2462 (by omega) hQ
    · exact h
  · refine br_f l3 (And.intro h3 (br_t e1 (And.intro h3 (br_f (by rw [e3]; exact d) (nm_e ?_)))))
    refine yf_past0 hr ?_
    refine Exists.intro 2462 (hY' _ 2462 (by omega) (nm_r (e' := nI (r + 1)) (nI_1 r) ?_))
    exact h
theorem i_vc_pass {k : Nat} {u : SX} {v : SY} (I : i_Rel k u v) (hk : k + 4 ≤ 2048) (v1 : Int32) : wpX_pass (fun r u' => wpY_pass (fun r' v' => r' = r ∧ i_Rel (k + 4) u' v') v v1) u v1 := by
  refine rr_el (P := fun u v => wpX_pass (fun r u' => wpY_pass (fun r' v' => r' = r ∧ i_Rel (k + 4) u' v') v v1) u v1) ?_ I
  intro L T lk op fi se st ar es ev sg ch va tk wk kn rg pl sa rs mt ia ya ysa ypl ysp yrg yrs ywk yov ysg hok hT hya hA
  have hI : i_Rel (k + 4) (nI L, lk, nI T, op, fi, se, st, ar, es, ev, sg, ch, va, tk, wk, kn, rg, pl, sa, rs, mt, ia) (nI L, lk, nI T, op, ya, se, ysa, ypl, ysp, yrg, yrs, ywk, yov, ysg, ch, va, tk) := rr_in hok (by omega) hya hA
  by_cases c0 : v1 < 0
  · refine br_t c0 (br_t c0 ?_)
    exact ⟨rfl, hI⟩
  by_cases c1 : v1 ≤ 1000
  rotate_left
  · refine br_f c0 (br_f c1 (br_f c0 (br_f c1 ?_)))
    exact ⟨rfl, hI⟩
  obtain ⟨V, hV, rfl⟩ := nI_of2 (M := 1000) (n := 1000) (by decide) c0 c1
  have I0 : i_Rel (k + 4) (nI L, lk, nI (T + V), op, fi, se, st, ar, es, ev, sg, ch, va, tk, wk, kn, rg, pl, sa, rs, mt, ia) (nI L, lk, nI (T + V), op, ya, se, ysa, ypl, ysp, yrg, yrs, ywk, yov, ysg, ch, va, tk) := rr_in hok (by omega) hya hA
  obtain ⟨u1, w1, f1, I1, X1, Y1⟩ := rp_step (r := 0) I0 (by omega) (by omega)
  obtain ⟨u2, w2, f2, I2, X2, Y2⟩ := rp_step (r := 1) I1 (by omega) (by omega)
  obtain ⟨u3, w3, f3, I3, X3, Y3⟩ := rp_step (r := 2) I2 (by omega) (by omega)
  refine br_f c0 (br_t c1 (nm_r (e' := nI (T + V)) (nI_add T V) (Exists.intro 4 ?_)))
  refine (show ∀ post : Int32 → SX → Prop, rp_X post 4 0 (nI 0) (nI L, lk, nI (T + V), op, fi, se, st, ar, es, ev, sg, ch, va, tk, wk, kn, rg, pl, sa, rs, mt, ia) → wX_pass_28 post 4 0 0 (nI L) lk (nI (T + V)) op fi se st ar es ev sg ch va tk wk kn rg pl sa rs mt ia from fun _ h => h) _ ?_
  refine X1 _ 3 0 (X2 _ 2 _ (X3 _ 1 _ (rp_endX (n := 0) ?_)))
  refine br_f c0 (br_t c1 (nm_r (e' := nI (T + V)) (nI_add T V) (Exists.intro 4 ?_)))
  refine (show ∀ post : Int32 → SY → Prop, rp_Y post 4 0 (nI 0) (nI L, lk, nI (T + V), op, ya, se, ysa, ypl, ysp, yrg, yrs, ywk, yov, ysg, ch, va, tk) → wY_pass_28 post 4 0 0 (nI L) lk (nI (T + V)) op ya se ysa ypl ysp yrg yrs ywk yov ysg ch va tk from fun _ h => h) _ ?_
  refine Y1 _ 3 0 (Y2 _ 2 _ (Y3 _ 1 _ (rp_endY (n := 0) ?_)))
  exact ⟨rfl, I3⟩
end
