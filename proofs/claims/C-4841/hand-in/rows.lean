section
theorem pk_us {f : Nat → Int32} {k : Nat} {x : Int32} : upd f k x k = x := if_pos rfl
theorem pk_un {f : Nat → Int32} {k j : Nat} {x : Int32} (h : j ≠ k) : upd f k x j = f j := if_neg h
theorem pk_sub {a b : Nat} (h : b ≤ a) : nI a - nI b = nI (a - b) := by
  obtain ⟨c, rfl⟩ : ∃ c, a = c + b := ⟨a - b, by omega⟩
  rw [← nI_add, Int32.add_sub_cancel, Nat.add_sub_cancel]
theorem pk_m1 (n : Nat) : nI (n + 1) + (-1) = nI n := by
  rw [← nI_1, Int32.add_assoc, show (1 : Int32) + (-1) = 0 from rfl, Int32.add_zero]
theorem pk_mul (a b : Nat) : nI a * nI b = nI (a * b) := (Int32.ofNat_mul a b).symm
theorem pk_ix (x : Int32) {n : Nat} (hn : n < 2 ^ 31) : x < 0 ∨ nI n ≤ x ∨ ∃ j : Nat, j < n ∧ x = nI j := by
  by_cases h : x < 0
  · exact Or.inl h
  · obtain ⟨j, hj, rfl⟩ := nI_of h
    by_cases h2 : j < n
    · exact Or.inr (Or.inr ⟨j, h2, rfl⟩)
    · exact Or.inr (Or.inl (nI_le (by omega) hj))
theorem pk_le {x y : Int32} {A B : Prop} (a b : Nat) (f : a ≤ b → A) (g : b < a → B) (hx : x = nI a := by rfl) (hy : y = nI b := by rfl) (ha : a < 2 ^ 31 := by omega) (hb : b < 2 ^ 31 := by omega) : (x ≤ y → A) ∧ (¬ x ≤ y → B) := by
  subst hx hy
  rw [nI_leI ha hb]
  exact ⟨f, fun z => g (by omega)⟩
theorem pk_lt {x y : Int32} {A B : Prop} (a b : Nat) (f : a < b → A) (g : b ≤ a → B) (hx : x = nI a := by rfl) (hy : y = nI b := by rfl) (ha : a < 2 ^ 31 := by omega) (hb : b < 2 ^ 31 := by omega) : (x < y → A) ∧ (¬ x < y → B) := by
  subst hx hy
  rw [nI_ltI ha hb]
  exact ⟨f, fun z => g (by omega)⟩
theorem pk_eq {x y : Int32} {A B : Prop} (a b : Nat) (f : a = b → A) (g : a ≠ b → B) (hx : x = nI a := by rfl) (hy : y = nI b := by rfl) (ha : a < 2 ^ 31 := by omega) (hb : b < 2 ^ 31 := by omega) : (x = y → A) ∧ (¬ x = y → B) := by
  subst hx hy
  rw [nI_eq ha hb]
  exact ⟨f, g⟩
theorem pk_in {x : Int32} (n N : Nat) (h : n < N) (hx : x = nI n := by rfl) (hN : N < 2 ^ 31 := by omega) : vp_in x N := by
  subst hx
  exact vp_in_nI h hN
theorem pk_cl {x : Int32} (n : Nat) (hx : x = nI n := by rfl) (h : n < 2 ^ 31 := by omega) : x.toNatClampNeg = n := by
  subst hx
  exact nI_clamp h
theorem pk_tn {n : Nat} (h : n < 2 ^ 32) : (nI n).toBitVec.toNat = n := Nat.mod_eq_of_lt h
theorem pk_and (x : Int32) {m : Int32} (k : Nat) (hm : m.toBitVec.toNat = 2 ^ k - 1) : x &&& m = nI (x.toBitVec.toNat % 2 ^ k) := by
  apply Int32.toBitVec_inj.mp
  apply BitVec.eq_of_toNat_eq
  rw [Int32.toBitVec_and, BitVec.toNat_and, hm, Nat.and_two_pow_sub_one_eq_mod]
  show _ = (BitVec.ofNat 32 _).toNat
  rw [BitVec.toNat_ofNat]
  exact (Nat.mod_eq_of_lt (Nat.lt_of_le_of_lt (Nat.mod_le _ _) x.toBitVec.isLt)).symm
theorem pk_andN {n : Nat} (h : n < 2 ^ 32) {m : Int32} (k : Nat) (hm : m.toBitVec.toNat = 2 ^ k - 1) : nI n &&& m = nI (n % 2 ^ k) := by
  rw [pk_and _ k hm, pk_tn h]
theorem pk_shr (a s : Int32) (k : Nat) (hs : (s.toBitVec.smod 32).toNat = k) : (a >>> s).toInt = a.toInt >>> k := by
  show (a.toBitVec.sshiftRight (s.toBitVec.smod 32).toNat).toInt = _
  rw [hs, BitVec.toInt_sshiftRight]
  rfl
theorem pk_shrN {n : Nat} (h : n < 2 ^ 31) (s : Int32) (k : Nat) (hs : (s.toBitVec.smod 32).toNat = k) : nI n >>> s = nI (n / 2 ^ k) := by
  apply Int32.toInt_inj.mp
  have h2 : n / 2 ^ k ≤ n := Nat.div_le_self _ _
  rw [pk_shr _ _ k hs, nI_toInt h, nI_toInt (by omega), Int.shiftRight_eq_div_pow]
  rfl
theorem ek_if {c d A B : Prop} (e : c ↔ d) (f : d → A) (g : ¬ d → B) : (c → A) ∧ (¬ c → B) :=
  ⟨fun z => f (e.mp z), fun z => g (fun y => z (e.mpr y))⟩
theorem ek_v {α : Sort _} {P : α → Prop} {a b : α} (e : a = b) (h : P b) : P a := e ▸ h
theorem co_4 {P : Nat → Prop} (h0 : P 0) (h1 : P 1) (h2 : P 2) (h3 : P 3) {i : Nat} (hi : i < 4) : P i :=
  match i, hi with
  | 0, _ => h0
  | 1, _ => h1
  | 2, _ => h2
  | 3, _ => h3
end
section
/-- four bits as an int -/
def fq_e (a b c d : Bool) : Int32 := nI (a.toNat + 2 * b.toNat + 4 * c.toNat + 8 * d.toNat)
def fq_E (f : Nat → Bool) : Int32 := fq_e (f 0) (f 1) (f 2) (f 3)
def fq_any (f : Nat → Bool) : Bool := f 0 || f 1 || f 2 || f 3
theorem fq_Ec {f g : Nat → Bool} (h : ∀ j, j < 4 → f j = g j) : fq_E f = fq_E g := by
  unfold fq_E; rw [h 0 (by decide), h 1 (by decide), h 2 (by decide), h 3 (by decide)]
theorem fq_anyc {f g : Nat → Bool} (h : ∀ j, j < 4 → f j = g j) : fq_any f = fq_any g := by
  unfold fq_any; rw [h 0 (by decide), h 1 (by decide), h 2 (by decide), h 3 (by decide)]
theorem fq_any_t {f : Nat → Bool} {j : Nat} (hj : j < 4) (h : f j = true) : fq_any f = true := by
  unfold fq_any
  rcases (by omega : j = 0 ∨ j = 1 ∨ j = 2 ∨ j = 3) with rfl | rfl | rfl | rfl <;> rw [h] <;> simp
theorem fq_any_f {f : Nat → Bool} (h : fq_any f = false) : ∀ j, j < 4 → f j = false := by
  intro j hj
  cases e : f j
  · rfl
  · rw [fq_any_t hj e] at h; exact absurd h (by decide)
theorem fq_any_f' {f : Nat → Bool} (h : ∀ j, j < 4 → f j = false) : fq_any f = false := by
  unfold fq_any; rw [h 0 (by decide), h 1 (by decide), h 2 (by decide), h 3 (by decide)]; rfl
theorem fq_any_e {f : Nat → Bool} (h : fq_any f = true) : ∃ j, j < 4 ∧ f j = true := by
  cases h0 : f 0
  · cases h1 : f 1
    · cases h2 : f 2
      · cases h3 : f 3
        · unfold fq_any at h; rw [h0, h1, h2, h3] at h; exact absurd h (by decide)
        · exact ⟨3, by decide, h3⟩
      · exact ⟨2, by decide, h2⟩
    · exact ⟨1, by decide, h1⟩
  · exact ⟨0, by decide, h0⟩
theorem fq_e_z : ∀ a b c d : Bool, fq_e a b c d = 0 ↔ (a || b || c || d) = false := by decide +kernel
theorem fq_e_set : ∀ j, j < 4 → ∀ a b c d : Bool, vp_nar .byte ((fq_e a b c d ||| ((1 : Int32) <<< (nI j &&& 31))).toInt8.toInt32) = fq_e (a || j == 0) (b || j == 1) (c || j == 2) (d || j == 3) := by decide +kernel
theorem fq_e_clr : ∀ j, j < 4 → ∀ a b c d : Bool, vp_nar .byte ((fq_e a b c d &&& (((1 : Int32) <<< (nI j &&& 31)) ^^^ (-1))).toInt8.toInt32) = fq_e (a && !(j == 0)) (b && !(j == 1)) (c && !(j == 2)) (d && !(j == 3)) := by decide +kernel
theorem fq_e_abv : ∀ j, j < 4 → ∀ a b c d : Bool, ((fq_e a b c d) &&& ((14 : Int32) <<< (nI j &&& 31))) &&& 15 = fq_e (a && decide (j < 0)) (b && decide (j < 1)) (c && decide (j < 2)) (d && decide (j < 3)) := by decide +kernel
theorem fq_e_bel : ∀ j, j < 4 → ∀ a b c d : Bool, (fq_e a b c d) &&& (((1 : Int32) <<< (nI j &&& 31)) - 1) = fq_e (a && decide (0 < j)) (b && decide (1 < j)) (c && decide (2 < j)) (d && decide (3 < j)) := by decide +kernel
theorem fq_e_t0 : ∀ a b c d : Bool, ((fq_e a b c d) >>> (nI 0 &&& 31)) &&& 1 = 0 ↔ a = false := by decide +kernel
theorem fq_e_t1 : ∀ a b c d : Bool, ((fq_e a b c d) >>> (nI 1 &&& 31)) &&& 1 = 0 ↔ b = false := by decide +kernel
theorem fq_e_t2 : ∀ a b c d : Bool, ((fq_e a b c d) >>> (nI 2 &&& 31)) &&& 1 = 0 ↔ c = false := by decide +kernel
theorem fq_e_t3 : ∀ a b c d : Bool, ((fq_e a b c d) >>> (nI 3 &&& 31)) &&& 1 = 0 ↔ d = false := by decide +kernel
theorem fq_E_z (f : Nat → Bool) : fq_E f = 0 ↔ fq_any f = false := fq_e_z _ _ _ _
theorem fq_E_set (f : Nat → Bool) {j : Nat} (hj : j < 4) : vp_nar .byte ((fq_E f ||| ((1 : Int32) <<< (nI j &&& 31))).toInt8.toInt32) = fq_E (fun k => f k || j == k) := fq_e_set j hj _ _ _ _
theorem fq_E_clr (f : Nat → Bool) {j : Nat} (hj : j < 4) : vp_nar .byte ((fq_E f &&& (((1 : Int32) <<< (nI j &&& 31)) ^^^ (-1))).toInt8.toInt32) = fq_E (fun k => f k && !(j == k)) := fq_e_clr j hj _ _ _ _
theorem fq_E_abv (f : Nat → Bool) {j : Nat} (hj : j < 4) : ((fq_E f) &&& ((14 : Int32) <<< (nI j &&& 31))) &&& 15 = fq_E (fun k => f k && decide (j < k)) := fq_e_abv j hj _ _ _ _
theorem fq_E_bel (f : Nat → Bool) {j : Nat} (hj : j < 4) : (fq_E f) &&& (((1 : Int32) <<< (nI j &&& 31)) - 1) = fq_E (fun k => f k && decide (k < j)) := fq_e_bel j hj _ _ _ _
theorem fq_E_tst (f : Nat → Bool) {j : Nat} (hj : j < 4) : ((fq_E f) >>> (nI j &&& 31)) &&& 1 = 0 ↔ f j = false := by
  rcases (by omega : j = 0 ∨ j = 1 ∨ j = 2 ∨ j = 3) with rfl | rfl | rfl | rfl
  · exact fq_e_t0 _ _ _ _
  · exact fq_e_t1 _ _ _ _
  · exact fq_e_t2 _ _ _ _
  · exact fq_e_t3 _ _ _ _
def fq_lo (a b c d : Bool) : Nat := match a, b, c with
  | true, _, _ => 0
  | false, true, _ => 1
  | false, false, true => 2
  | false, false, false => 3
def fq_hi (a b c d : Bool) : Nat := match d, c, b with
  | true, _, _ => 3
  | false, true, _ => 2
  | false, false, true => 1
  | false, false, false => 0
def fq_L (f : Nat → Bool) : Nat := fq_lo (f 0) (f 1) (f 2) (f 3)
def fq_H (f : Nat → Bool) : Nat := fq_hi (f 0) (f 1) (f 2) (f 3)
theorem fq_lowW (a b c d : Bool) {post : Int32 → Prop} (h : post (nI (fq_lo a b c d))) : wpX_lowest post (fq_e a b c d) := by
  unfold wpX_lowest
  cases a <;> cases b <;> cases c <;> cases d <;> (first
    | exact br_t (by decide +kernel) (br_t (by decide +kernel) h)
    | exact br_t (by decide +kernel) (br_f (by decide +kernel) h)
    | exact br_f (by decide +kernel) (br_t (by decide +kernel) h)
    | exact br_f (by decide +kernel) (br_f (by decide +kernel) h))
theorem fq_highW (a b c d : Bool) {post : Int32 → Prop} (h : post (nI (fq_hi a b c d))) : wpX_highest post (fq_e a b c d) := by
  unfold wpX_highest
  cases a <;> cases b <;> cases c <;> cases d <;> (first
    | exact br_t (by decide +kernel) (br_t (by decide +kernel) h)
    | exact br_t (by decide +kernel) (br_f (by decide +kernel) h)
    | exact br_f (by decide +kernel) (br_t (by decide +kernel) h)
    | exact br_f (by decide +kernel) (br_f (by decide +kernel) h))
theorem fq_lowE {f : Nat → Bool} {post : Int32 → Prop} (h : post (nI (fq_L f))) : wpX_lowest post (fq_E f) := fq_lowW _ _ _ _ h
theorem fq_highE {f : Nat → Bool} {post : Int32 → Prop} (h : post (nI (fq_H f))) : wpX_highest post (fq_E f) := fq_highW _ _ _ _ h
theorem fq_L_sp (f : Nat → Bool) (h : fq_any f = true) : fq_L f < 4 ∧ f (fq_L f) = true ∧ ∀ j, j < fq_L f → f j = false := by
  unfold fq_any at h
  unfold fq_L
  cases h0 : f 0
  · cases h1 : f 1
    · cases h2 : f 2
      · rw [h0, h1, h2] at h
        refine ⟨(by decide : (3 : Nat) < 4), h, fun j hj => ?_⟩
        have hj : j < 3 := hj
        rcases (by omega : j = 0 ∨ j = 1 ∨ j = 2) with rfl | rfl | rfl <;> assumption
      · refine ⟨(by decide : (2 : Nat) < 4), h2, fun j hj => ?_⟩
        have hj : j < 2 := hj
        rcases (by omega : j = 0 ∨ j = 1) with rfl | rfl <;> assumption
    · refine ⟨(by decide : (1 : Nat) < 4), h1, fun j hj => ?_⟩
      have hj : j < 1 := hj
      rcases (by omega : j = 0) with rfl
      assumption
  · exact ⟨(by decide : (0 : Nat) < 4), h0, fun j hj => absurd (show j < 0 from hj) (Nat.not_lt_zero _)⟩
theorem fq_H_sp (f : Nat → Bool) (h : fq_any f = true) : fq_H f < 4 ∧ f (fq_H f) = true ∧ ∀ j, j < 4 → fq_H f < j → f j = false := by
  unfold fq_any at h
  unfold fq_H
  cases h3 : f 3
  · cases h2 : f 2
    · cases h1 : f 1
      · rw [h3, h2, h1] at h
        have h0 : f 0 = true := by cases q : f 0; rw [q] at h; exact absurd h (by decide); rfl
        refine ⟨(by decide : (0 : Nat) < 4), h0, fun j h4 hj => ?_⟩
        have hj : 0 < j := hj
        rcases (by omega : j = 1 ∨ j = 2 ∨ j = 3) with rfl | rfl | rfl <;> assumption
      · refine ⟨(by decide : (1 : Nat) < 4), h1, fun j h4 hj => ?_⟩
        have hj : 1 < j := hj
        rcases (by omega : j = 2 ∨ j = 3) with rfl | rfl <;> assumption
    · refine ⟨(by decide : (2 : Nat) < 4), h2, fun j h4 hj => ?_⟩
      have hj : 2 < j := hj
      rcases (by omega : j = 3) with rfl
      assumption
  · refine ⟨(by decide : (3 : Nat) < 4), h3, fun j h4 hj => ?_⟩
    have hj : 3 < j := hj
    omega
theorem fq_sh2 {x : Nat} (h : x < 2 ^ 31) : nI x >>> ((2 : Int32) &&& 31) = nI (x / 4) := pk_shrN h _ 2 (by decide)
theorem fq_sh4 {x : Nat} (h : x < 2 ^ 31) : nI x >>> ((4 : Int32) &&& 31) = nI (x / 16) := pk_shrN h _ 4 (by decide)
theorem fq_a3 {x : Nat} (h : x < 2 ^ 31) : nI x &&& 3 = nI (x % 4) := pk_andN (by omega) 2 (by decide)
theorem fq_a15 {x : Nat} (h : x < 2 ^ 31) : nI x &&& 15 = nI (x % 16) := pk_andN (by omega) 4 (by decide)
theorem fq_cell (c i : Nat) : (nI c * 4) + nI i = nI (4 * c + i) := by
  show nI c * nI 4 + nI i = _
  rw [pk_mul, nI_add, Nat.mul_comm]
theorem fq_x4 (i j : Nat) : (4 * nI i) + nI j = nI (4 * i + j) := by
  show nI 4 * nI i + nI j = _
  rw [pk_mul, nI_add]
theorem fq_x16 (i j : Nat) : (16 * nI i) + nI j = nI (16 * i + j) := by
  show nI 16 * nI i + nI j = _
  rw [pk_mul, nI_add]
theorem fq_by : ∀ x, x < 16 → vp_nar .byte ((nI x).toInt8.toInt32) = nI x := by decide +kernel
theorem fq_bm : vp_nar .byte ((-1 : Int32).toInt8.toInt32) = -1 := by decide +kernel
theorem fq_bm' : vp_nar .byte (-1 : Int32) = -1 := by decide +kernel
theorem fq_b1 : vp_nar .boolean (1 : Int32) = 1 := by decide +kernel
theorem fq_b0 : vp_nar .boolean (0 : Int32) = 0 := by decide +kernel
theorem fq_m1 : (-1 : Int32).toInt = -1 := by decide
theorem fq_neg : (-1 : Int32) < 0 := by decide
end
section
theorem fq_bf {a b : Nat} (h : a ≠ b) : (a == b) = false := beq_false_of_ne h
theorem fq_bt {a b : Nat} (h : a = b) : (a == b) = true := by subst h; exact beq_self_eq_true a
theorem fq_bc {a b c d : Nat} (h : a = b ↔ c = d) : (a == b) = (c == d) := by
  by_cases q : a = b
  · rw [fq_bt q, fq_bt (h.mp q)]
  · rw [fq_bf q, fq_bf (fun z => q (h.mpr z))]
theorem fq_tf {b : Bool} (h : b = true) (h' : b = false) : False := by rw [h] at h'; cases h'
theorem fq_nt {b : Bool} (h : ¬ b = true) : b = false := by cases b; rfl; exact absurd rfl h
/-- S without l -/
def fq_wo (S : Nat → Bool) (l : Nat) : Nat → Bool := fun x => S x && !(l == x)
theorem fq_wo_t {S : Nat → Bool} {l x : Nat} (h : S x = true) (hx : x ≠ l) : fq_wo S l x = true := by
  unfold fq_wo; rw [h, fq_bf (Ne.symm hx)]; rfl
theorem fq_wo_S {S : Nat → Bool} {l x : Nat} (h : fq_wo S l x = true) : S x = true := by
  unfold fq_wo at h
  cases q : S x
  · rw [q] at h; cases h
  · rfl
theorem fq_wo_n {S : Nat → Bool} {l x : Nat} (h : fq_wo S l x = true) : x ≠ l := by
  intro e; subst e; unfold fq_wo at h; rw [fq_bt rfl] at h
  cases q : S x
  · rw [q] at h; cases h
  · rw [q] at h; cases h
theorem fq_wo_e {S : Nat → Bool} {l x : Nat} (hx : x ≠ l) : fq_wo S l x = S x := by
  unfold fq_wo; rw [fq_bf (Ne.symm hx)]; simp
theorem fq_wo_l {S : Nat → Bool} {l : Nat} : fq_wo S l l = false := by
  unfold fq_wo; rw [fq_bt rfl]; simp
/-- S with l -/
def fq_wi (S : Nat → Bool) (l : Nat) : Nat → Bool := fun x => S x || l == x
theorem fq_wi_l {S : Nat → Bool} {l : Nat} : fq_wi S l l = true := by
  unfold fq_wi; rw [fq_bt rfl]; simp
theorem fq_wi_e {S : Nat → Bool} {l x : Nat} (hx : x ≠ l) : fq_wi S l x = S x := by
  unfold fq_wi; rw [fq_bf (Ne.symm hx)]; simp
theorem fq_wi_t {S : Nat → Bool} {l x : Nat} (h : S x = true) : fq_wi S l x = true := by
  unfold fq_wi; rw [h]; rfl
theorem fq_wi_c {S : Nat → Bool} {l x : Nat} (h : fq_wi S l x = true) : S x = true ∨ x = l := by
  by_cases e : x = l
  · exact Or.inr e
  · rw [fq_wi_e e] at h; exact Or.inl h
/-- the least member above x -/
def fq_Aft (N : Nat) (S : Nat → Bool) (x : Int) (r : Int32) : Prop :=
  (∃ y : Nat, y < N ∧ S y = true ∧ x < y ∧ (∀ z : Nat, z < N → S z = true → x < z → y ≤ z) ∧ r = nI y) ∨ ((∀ z : Nat, z < N → S z = true → ¬ x < z) ∧ r = -1)
/-- the greatest member below x -/
def fq_Bef (N : Nat) (S : Nat → Bool) (x : Int) (r : Int32) : Prop :=
  (∃ y : Nat, y < N ∧ S y = true ∧ (y : Int) < x ∧ (∀ z : Nat, z < N → S z = true → (z : Int) < x → z ≤ y) ∧ r = nI y) ∨ ((∀ z : Nat, z < N → S z = true → ¬ (z : Int) < x) ∧ r = -1)
theorem fq_Aft_u {N : Nat} {S : Nat → Bool} {x : Int} {r r' : Int32} (h : fq_Aft N S x r) (h' : fq_Aft N S x r') : r' = r := by
  rcases h with ⟨y, a1, a2, a3, a4, rfl⟩ | ⟨a1, rfl⟩ <;> rcases h' with ⟨y', b1, b2, b3, b4, rfl⟩ | ⟨b1, rfl⟩
  · have e : y' = y := Nat.le_antisymm (b4 _ a1 a2 a3) (a4 _ b1 b2 b3)
    rw [e]
  · exact absurd a3 (b1 _ a1 a2)
  · exact absurd b3 (a1 _ b1 b2)
  · rfl
theorem fq_Bef_u {N : Nat} {S : Nat → Bool} {x : Int} {r r' : Int32} (h : fq_Bef N S x r) (h' : fq_Bef N S x r') : r' = r := by
  rcases h with ⟨y, a1, a2, a3, a4, rfl⟩ | ⟨a1, rfl⟩ <;> rcases h' with ⟨y', b1, b2, b3, b4, rfl⟩ | ⟨b1, rfl⟩
  · have e : y' = y := Nat.le_antisymm (a4 _ b1 b2 b3) (b4 _ a1 a2 a3)
    rw [e]
  · exact absurd a3 (b1 _ a1 a2)
  · exact absurd b3 (a1 _ b1 b2)
  · rfl
/-- which parts of R aren't empty; a part -/
def fq_pb (R : Nat → Bool) (i : Nat) : Nat → Bool := fun j => R (4 * i + j)
def fq_pa (R : Nat → Bool) (i : Nat) : Bool := fq_any (fq_pb R i)
theorem fq_pa_t {R : Nat → Bool} {z : Nat} (h : R z = true) : fq_pa R (z / 4) = true := by
  refine fq_any_t (j := z % 4) (by omega) ?_
  show R (4 * (z / 4) + z % 4) = true
  rw [show 4 * (z / 4) + z % 4 = z by omega]; exact h
theorem fq_pb_t {R : Nat → Bool} {z : Nat} (h : R z = true) : fq_pb R (z / 4) (z % 4) = true := by
  show R (4 * (z / 4) + z % 4) = true
  rw [show 4 * (z / 4) + z % 4 = z by omega]; exact h
theorem fq_pb_c {R R' : Nat → Bool} {i : Nat} (hi : i < 4) (h : ∀ x, x < 16 → R x = R' x) : ∀ j, j < 4 → fq_pb R i j = fq_pb R' i j := by
  intro j hj; exact h _ (by omega)
theorem fq_pa_c {R R' : Nat → Bool} (h : ∀ x, x < 16 → R x = R' x) : ∀ i, i < 4 → fq_pa R i = fq_pa R' i := by
  intro i hi; exact fq_anyc (fq_pb_c hi h)
/-- the parts of cluster c hold R -/
def fq_P (pt bt : Nat → Int32) (c : Nat) (R : Nat → Bool) : Prop :=
  pt c = fq_E (fq_pa R) ∧ ∀ i, i < 4 → bt (4 * c + i) = fq_E (fq_pb R i)
theorem fq_P_c {pt bt : Nat → Int32} {c : Nat} {R R' : Nat → Bool} (h : ∀ x, x < 16 → R x = R' x) (hP : fq_P pt bt c R) : fq_P pt bt c R' :=
  ⟨hP.1.trans (fq_Ec (fq_pa_c h)), fun i hi => (hP.2 i hi).trans (fq_Ec (fq_pb_c hi h))⟩
/-- cluster c holds S -/
def fq_Cl (lo hi pt bt : Nat → Int32) (c : Nat) (S : Nat → Bool) : Prop :=
  ((∀ x, x < 16 → S x = false) ∧ lo c = -1 ∧ hi c = -1 ∧ fq_P pt bt c (fun _ => false)) ∨
  (∃ l h : Nat, l < 16 ∧ h < 16 ∧ S l = true ∧ S h = true ∧ (∀ x, x < 16 → S x = true → l ≤ x ∧ x ≤ h) ∧ lo c = nI l ∧ hi c = nI h ∧ fq_P pt bt c (fq_wo S l))
/-- nothing but cluster c changes -/
def fq_F (c : Nat) (lo hi pt bt lo' hi' pt' bt' : Nat → Int32) : Prop :=
  ∀ d, d ≠ c → lo' d = lo d ∧ hi' d = hi d ∧ pt' d = pt d ∧ ∀ i, i < 4 → bt' (4 * d + i) = bt (4 * d + i)
theorem fq_F_r {c : Nat} {lo hi pt bt : Nat → Int32} : fq_F c lo hi pt bt lo hi pt bt := fun _ _ => ⟨rfl, rfl, rfl, fun _ _ => rfl⟩
theorem fq_F_t {c : Nat} {lo hi pt bt lo' hi' pt' bt' lo2 hi2 pt2 bt2 : Nat → Int32} (h : fq_F c lo hi pt bt lo' hi' pt' bt') (g : fq_F c lo' hi' pt' bt' lo2 hi2 pt2 bt2) : fq_F c lo hi pt bt lo2 hi2 pt2 bt2 := by
  intro d hd
  obtain ⟨a1, a2, a3, a4⟩ := h d hd
  obtain ⟨b1, b2, b3, b4⟩ := g d hd
  exact ⟨b1.trans a1, b2.trans a2, b3.trans a3, fun i hi => (b4 i hi).trans (a4 i hi)⟩
theorem fq_F_lo {c : Nat} {lo hi pt bt : Nat → Int32} {v : Int32} : fq_F c lo hi pt bt (upd lo c v) hi pt bt := fun _ hd => ⟨pk_un hd, rfl, rfl, fun _ _ => rfl⟩
theorem fq_F_hi {c : Nat} {lo hi pt bt : Nat → Int32} {v : Int32} : fq_F c lo hi pt bt lo (upd hi c v) pt bt := fun _ hd => ⟨rfl, pk_un hd, rfl, fun _ _ => rfl⟩
theorem fq_F_pt {c : Nat} {lo hi pt bt : Nat → Int32} {v : Int32} : fq_F c lo hi pt bt lo hi (upd pt c v) bt := fun _ hd => ⟨rfl, rfl, pk_un hd, fun _ _ => rfl⟩
theorem fq_F_bt {c k : Nat} {lo hi pt bt : Nat → Int32} {v : Int32} (hk : k < 4) : fq_F c lo hi pt bt lo hi pt (upd bt (4 * c + k) v) := fun _ hd => ⟨rfl, rfl, rfl, fun _ _ => pk_un (by omega)⟩
theorem fq_P_F {c d : Nat} {lo hi pt bt lo' hi' pt' bt' : Nat → Int32} {R : Nat → Bool} (h : fq_F c lo hi pt bt lo' hi' pt' bt') (hd : d ≠ c) (hP : fq_P pt bt d R) : fq_P pt' bt' d R := by
  obtain ⟨a1, a2, a3, a4⟩ := h d hd
  exact ⟨a3.trans hP.1, fun i hi => (a4 i hi).trans (hP.2 i hi)⟩
theorem fq_Cl_F {c d : Nat} {lo hi pt bt lo' hi' pt' bt' : Nat → Int32} {S : Nat → Bool} (h : fq_F c lo hi pt bt lo' hi' pt' bt') (hd : d ≠ c) (hC : fq_Cl lo hi pt bt d S) : fq_Cl lo' hi' pt' bt' d S := by
  obtain ⟨a1, a2, _, _⟩ := h d hd
  rcases hC with ⟨h1, h2, h3, h4⟩ | ⟨l, g, h1, h2, h3, h4, h5, h6, h7, h8⟩
  · exact Or.inl ⟨h1, a1.trans h2, a2.trans h3, fq_P_F h hd h4⟩
  · exact Or.inr ⟨l, g, h1, h2, h3, h4, h5, a1.trans h6, a2.trans h7, fq_P_F h hd h8⟩
theorem fq_Cl_c {lo hi pt bt : Nat → Int32} {c : Nat} {S S' : Nat → Bool} (h : ∀ x, x < 16 → S x = S' x) (hC : fq_Cl lo hi pt bt c S) : fq_Cl lo hi pt bt c S' := by
  rcases hC with ⟨h1, h2, h3, h4⟩ | ⟨l, g, h1, h2, h3, h4, h5, h6, h7, h8⟩
  · exact Or.inl ⟨fun x hx => (h x hx).symm.trans (h1 x hx), h2, h3, h4⟩
  · refine Or.inr ⟨l, g, h1, h2, (h l h1).symm.trans h3, (h g h2).symm.trans h4, fun x hx hS => h5 x hx ((h x hx).trans hS), h6, h7, fq_P_c (fun x hx => ?_) h8⟩
    unfold fq_wo; rw [h x hx]
theorem fq_first {R : Nat → Bool} {i : Nat} (hi : i < 4) (hp : fq_pa R i = true) : fq_L (fq_pb R i) < 4 ∧ R (4 * i + fq_L (fq_pb R i)) = true ∧ ∀ z, z / 4 = i → R z = true → 4 * i + fq_L (fq_pb R i) ≤ z := by
  obtain ⟨h4, ht, hm⟩ := fq_L_sp _ hp
  refine ⟨h4, ht, fun z hz hR => Nat.le_of_not_lt fun hlt => ?_⟩
  have q := hm (z % 4) (by omega)
  subst hz
  exact fq_tf (fq_pb_t hR) q
theorem fq_last {R : Nat → Bool} {i : Nat} (hi : i < 4) (hp : fq_pa R i = true) : fq_H (fq_pb R i) < 4 ∧ R (4 * i + fq_H (fq_pb R i)) = true ∧ ∀ z, z / 4 = i → R z = true → z ≤ 4 * i + fq_H (fq_pb R i) := by
  obtain ⟨h4, ht, hm⟩ := fq_H_sp _ hp
  refine ⟨h4, ht, fun z hz hR => Nat.le_of_not_lt fun hlt => ?_⟩
  have q := hm (z % 4) (by omega) (by omega)
  subst hz
  exact fq_tf (fq_pb_t hR) q
theorem fq_no {R : Nat → Bool} (h : fq_any (fq_pa R) = false) : ∀ z, z < 16 → R z = false := by
  intro z hz
  cases q : R z
  · rfl
  · exact (fq_tf (fq_pa_t q) (fq_any_f h (z / 4) (by omega))).elim
theorem fq_no' {R : Nat → Bool} (h : ∀ z, z < 16 → R z = false) : fq_any (fq_pa R) = false :=
  fq_any_f' fun i hi => fq_any_f' fun j hj => h _ (by omega)
/-- 0 or 1 -/
def fq_01 : Bool → Int32
  | true => 1
  | false => 0
end
section
theorem fq_putBit (fl fg fc : Int32) {lo hi pt bt : Nat → Int32} {c x : Nat} {R R' : Nat → Bool} (hc : c < 17) (hx : x < 16) (hP : fq_P pt bt c R) (hR : ∀ y, y < 16 → R' y = fq_wi R x y) :
    ∃ pt' bt' : Nat → Int32, fq_P pt' bt' c R' ∧ fq_F c lo hi pt bt lo hi pt' bt' ∧ ∀ post : SX → Prop, post (fl, fg, fc, lo, hi, pt', bt') → wpX_putBit post (fl, fg, fc, lo, hi, pt, bt) (nI c) (nI x) := by
  obtain ⟨hp, hb⟩ := hP
  have q4 : x / 4 < 4 := by omega
  have m4 : x % 4 < 4 := by omega
  refine ⟨upd pt c (fq_E (fun k => fq_pa R k || x / 4 == k)), upd bt (4 * c + x / 4) (fq_E (fun k => fq_pb R (x / 4) k || x % 4 == k)), ⟨?_, ?_⟩, ?_, ?_⟩
  · rw [pk_us]
    refine fq_Ec fun i hi => ?_
    by_cases e : x / 4 = i
    · subst e
      rw [fq_bt rfl, Bool.or_true]
      have : R' x = true := by rw [hR x hx]; exact fq_wi_l
      exact (fq_pa_t this).symm
    · rw [fq_bf e, Bool.or_false]
      refine fq_anyc fun j hj => ?_
      show R (4 * i + j) = R' (4 * i + j)
      rw [hR _ (by omega), fq_wi_e (by omega)]
  · intro i hi
    by_cases e : i = x / 4
    · subst e
      rw [pk_us]
      refine fq_Ec fun j hj => ?_
      show (R (4 * (x / 4) + j) || x % 4 == j) = R' (4 * (x / 4) + j)
      rw [hR _ (by omega)]
      show _ = (R (4 * (x / 4) + j) || x == (4 * (x / 4) + j))
      rw [fq_bc (a := x % 4) (b := j) (c := x) (d := 4 * (x / 4) + j) (by omega)]
    · rw [pk_un (by omega), hb i hi]
      refine fq_Ec fun j hj => ?_
      show R (4 * i + j) = R' (4 * i + j)
      rw [hR _ (by omega), fq_wi_e (by omega)]
  · exact fq_F_t (fq_F_pt) (fq_F_bt q4)
  · intro post h
    unfold wpX_putBit
    dsimp only
    rw [fq_sh2 (by omega), fq_a3 (by omega), fq_cell, nI_clamp (n := c) (by omega)]
    intro x3 e3
    subst e3
    rw [nI_clamp (n := 4 * c + x / 4) (by omega)]
    refine ⟨vp_in_nI (by omega) (by decide), vp_in_nI (by omega) (by decide), ?_⟩
    intro b4 e4
    rw [hb _ q4, fq_E_set _ m4] at e4
    subst e4
    refine ⟨vp_in_nI hc (by decide), vp_in_nI hc (by decide), ?_⟩
    intro p7 e7
    rw [hp, fq_E_set _ q4] at e7
    subst e7
    exact h
theorem fq_takeBit (fl fg fc : Int32) {lo hi pt bt : Nat → Int32} {c x : Nat} {R R' : Nat → Bool} (hc : c < 17) (hx : x < 16) (hP : fq_P pt bt c R) (hR : ∀ y, y < 16 → R' y = fq_wo R x y) :
    ∃ pt' bt' : Nat → Int32, fq_P pt' bt' c R' ∧ fq_F c lo hi pt bt lo hi pt' bt' ∧ ∀ post : SX → Prop, post (fl, fg, fc, lo, hi, pt', bt') → wpX_takeBit post (fl, fg, fc, lo, hi, pt, bt) (nI c) (nI x) := by
  obtain ⟨hp, hb⟩ := hP
  have q4 : x / 4 < 4 := by omega
  have m4 : x % 4 < 4 := by omega
  have hB : fq_E (fun k => fq_pb R (x / 4) k && !(x % 4 == k)) = fq_E (fq_pb R' (x / 4)) := by
    refine fq_Ec fun j hj => ?_
    show (R (4 * (x / 4) + j) && !(x % 4 == j)) = R' (4 * (x / 4) + j)
    rw [hR _ (by omega)]
    show _ = (R (4 * (x / 4) + j) && !(x == (4 * (x / 4) + j)))
    rw [fq_bc (a := x % 4) (b := j) (c := x) (d := 4 * (x / 4) + j) (by omega)]
  have hbits : ∀ i, i < 4 → upd bt (4 * c + x / 4) (fq_E (fq_pb R' (x / 4))) (4 * c + i) = fq_E (fq_pb R' i) := by
    intro i hi
    by_cases e : i = x / 4
    · subst e
      rw [pk_us]
    · rw [pk_un (by omega), hb i hi]
      refine fq_Ec fun j hj => ?_
      show R (4 * i + j) = R' (4 * i + j)
      rw [hR _ (by omega), fq_wo_e (by omega)]
  have hoth : ∀ i, i < 4 → i ≠ x / 4 → fq_pa R i = fq_pa R' i := by
    intro i hi e
    refine fq_anyc fun j hj => ?_
    show R (4 * i + j) = R' (4 * i + j)
    rw [hR _ (by omega), fq_wo_e (by omega)]
  cases hz : fq_pa R' (x / 4)
  · refine ⟨upd pt c (fq_E (fun k => fq_pa R k && !(x / 4 == k))), upd bt (4 * c + x / 4) (fq_E (fq_pb R' (x / 4))), ⟨?_, hbits⟩, fq_F_t (fq_F_pt) (fq_F_bt q4), ?_⟩
    · rw [pk_us]
      refine fq_Ec fun i hi => ?_
      by_cases e : x / 4 = i
      · subst e
        rw [fq_bt rfl, hz]; simp
      · rw [fq_bf e, ← hoth i hi (Ne.symm e)]; simp
    · intro post h
      unfold wpX_takeBit
      dsimp only
      rw [fq_sh2 (by omega), fq_a3 (by omega), fq_cell, nI_clamp (n := c) (by omega)]
      intro x3 e3
      subst e3
      rw [nI_clamp (n := 4 * c + x / 4) (by omega)]
      refine ⟨vp_in_nI (by omega) (by decide), vp_in_nI (by omega) (by decide), ?_⟩
      intro b4 e4
      rw [hb _ q4, fq_E_clr _ m4, hB] at e4
      subst e4
      rw [pk_us]
      refine ⟨vp_in_nI (by omega) (by decide), br_t ((fq_E_z _).mpr hz) ⟨vp_in_nI hc (by decide), vp_in_nI hc (by decide), ?_⟩⟩
      intro p7 e7
      rw [hp, fq_E_clr _ q4] at e7
      subst e7
      exact h
  · refine ⟨pt, upd bt (4 * c + x / 4) (fq_E (fq_pb R' (x / 4))), ⟨?_, hbits⟩, fq_F_bt q4, ?_⟩
    · rw [hp]
      refine fq_Ec fun i hi => ?_
      by_cases e : i = x / 4
      · subst e
        rw [hz]
        obtain ⟨j, hj, h⟩ := fq_any_e hz
        have h : R' (4 * (x / 4) + j) = true := h
        rw [hR _ (by omega)] at h
        exact fq_any_t hj (show R (4 * (x / 4) + j) = true from fq_wo_S h)
      · exact hoth i hi e
    · intro post h
      unfold wpX_takeBit
      dsimp only
      rw [fq_sh2 (by omega), fq_a3 (by omega), fq_cell, nI_clamp (n := c) (by omega)]
      intro x3 e3
      subst e3
      rw [nI_clamp (n := 4 * c + x / 4) (by omega)]
      refine ⟨vp_in_nI (by omega) (by decide), vp_in_nI (by omega) (by decide), ?_⟩
      intro b4 e4
      rw [hb _ q4, fq_E_clr _ m4, hB] at e4
      subst e4
      rw [pk_us]
      refine ⟨vp_in_nI (by omega) (by decide), br_f (fun z => fq_tf hz ((fq_E_z _).mp z)) h⟩
theorem fq_leastP (fl fg fc : Int32) {lo hi pt bt : Nat → Int32} {c : Nat} {R : Nat → Bool} (hc : c < 17) (hP : fq_P pt bt c R) :
    ∃ r : Int32, fq_Aft 16 R (-1) r ∧ ∀ post : Int32 → Prop, post r → wpX_leastInParts post (fl, fg, fc, lo, hi, pt, bt) (nI c) := by
  obtain ⟨hp, hb⟩ := hP
  cases hz : fq_any (fq_pa R)
  · refine ⟨-1, Or.inr ⟨fun z h hR => (fq_tf hR (fq_no hz z h)).elim, rfl⟩, fun post h => ?_⟩
    unfold wpX_leastInParts
    dsimp only
    rw [nI_clamp (n := c) (by omega), hp]
    exact ⟨vp_in_nI hc (by decide), br_t ((fq_E_z _).mpr hz) h⟩
  · obtain ⟨i4, it, im⟩ := fq_L_sp _ hz
    obtain ⟨j4, jt, jm⟩ := fq_first i4 it
    refine ⟨_, Or.inl ⟨_, ?_, jt, by omega, fun z h hR _ => ?_, rfl⟩, fun post h => ?_⟩
    · omega
    · by_cases e : z / 4 = fq_L (fq_pa R)
      · exact jm z e hR
      · have : ¬ z / 4 < fq_L (fq_pa R) := fun q => fq_tf (fq_pa_t hR) (im _ q)
        omega
    · unfold wpX_leastInParts
      dsimp only
      rw [nI_clamp (n := c) (by omega), hp]
      refine ⟨vp_in_nI hc (by decide), br_f (fun z => fq_tf hz ((fq_E_z _).mp z)) ⟨vp_in_nI hc (by decide), fq_lowE ?_⟩⟩
      rw [fq_cell, nI_clamp (by omega), hb _ i4]
      refine ⟨vp_in_nI (by omega) (by decide), nm_e (fq_lowE ?_)⟩
      rw [fq_x4]
      exact h
theorem fq_greatP (fl fg fc : Int32) {lo hi pt bt : Nat → Int32} {c : Nat} {R : Nat → Bool} (hc : c < 17) (hP : fq_P pt bt c R) :
    ∃ r : Int32, fq_Bef 16 R 16 r ∧ ∀ post : Int32 → Prop, post r → wpX_greatestInParts post (fl, fg, fc, lo, hi, pt, bt) (nI c) := by
  obtain ⟨hp, hb⟩ := hP
  cases hz : fq_any (fq_pa R)
  · refine ⟨-1, Or.inr ⟨fun z h hR => (fq_tf hR (fq_no hz z h)).elim, rfl⟩, fun post h => ?_⟩
    unfold wpX_greatestInParts
    dsimp only
    rw [nI_clamp (n := c) (by omega), hp]
    exact ⟨vp_in_nI hc (by decide), br_t ((fq_E_z _).mpr hz) h⟩
  · obtain ⟨i4, it, im⟩ := fq_H_sp _ hz
    obtain ⟨j4, jt, jm⟩ := fq_last i4 it
    refine ⟨_, Or.inl ⟨_, ?_, jt, by omega, fun z h hR _ => ?_, rfl⟩, fun post h => ?_⟩
    · omega
    · by_cases e : z / 4 = fq_H (fq_pa R)
      · exact jm z e hR
      · have : ¬ fq_H (fq_pa R) < z / 4 := fun q => fq_tf (fq_pa_t hR) (im _ (by omega) q)
        omega
    · unfold wpX_greatestInParts
      dsimp only
      rw [nI_clamp (n := c) (by omega), hp]
      refine ⟨vp_in_nI hc (by decide), br_f (fun z => fq_tf hz ((fq_E_z _).mp z)) ⟨vp_in_nI hc (by decide), fq_highE ?_⟩⟩
      rw [fq_cell, nI_clamp (by omega), hb _ i4]
      refine ⟨vp_in_nI (by omega) (by decide), nm_e (fq_highE ?_)⟩
      rw [fq_x4]
      exact h
end
section
theorem fq_neI {x : Nat} (hx : x < 2 ^ 31) : ¬ (-1 : Int32) = nI x := by
  intro e
  have h := nI_toInt hx
  rw [← e, fq_m1] at h
  omega
theorem fq_leI {x : Nat} (hx : x < 2 ^ 31) : (-1 : Int32) ≤ nI x := by
  rw [Int32.le_iff_toInt_le, nI_toInt hx, fq_m1]; omega
theorem fq_ltI {x : Nat} (hx : x < 2 ^ 31) : ¬ nI x < (-1 : Int32) := by
  rw [Int32.lt_iff_toInt_lt, nI_toInt hx, fq_m1]; omega
theorem fq_n0 : ¬ (0 : Int32) ≤ -1 := by decide
theorem fq_inC (fl fg fc : Int32) {lo hi pt bt : Nat → Int32} {c x : Nat} {S : Nat → Bool} (hc : c < 17) (hx : x < 16) (hC : fq_Cl lo hi pt bt c S) :
    ∀ post : Int32 → Prop, post (fq_01 (S x)) → wpX_inCluster post (fl, fg, fc, lo, hi, pt, bt) (nI c) (nI x) := by
  intro post h
  have q4 : x / 4 < 4 := by omega
  have m4 : x % 4 < 4 := by omega
  unfold wpX_inCluster
  dsimp only
  rw [fq_sh2 (by omega), fq_a3 (by omega), fq_cell, nI_clamp (n := c) (by omega), nI_clamp (n := 4 * c + x / 4) (by omega)]
  refine ⟨vp_in_nI hc (by decide), ?_⟩
  rcases hC with ⟨h1, h2, h3, h4⟩ | ⟨l, g, h1, h2, h3, h4, h5, h6, h7, h8⟩
  · rw [h2, h4.2 _ q4]
    refine br_f (fq_neI (by omega)) ⟨vp_in_nI (by omega) (by decide), br_t ((fq_E_tst _ m4).mpr rfl) ?_⟩
    rw [h1 x hx] at h
    exact h
  · rw [h6, h8.2 _ q4]
    refine pk_eq l x (fun e => ?_) (fun e => ⟨vp_in_nI (by omega) (by decide), ek_if (fq_E_tst _ m4) (fun z => ?_) (fun z => ?_)⟩)
    · subst e
      rw [h3] at h
      exact h
    · have z : fq_wo S l (4 * (x / 4) + x % 4) = false := z
      rw [show 4 * (x / 4) + x % 4 = x by omega, fq_wo_e (Ne.symm e)] at z
      rw [z] at h
      exact h
    · have z : ¬ fq_wo S l (4 * (x / 4) + x % 4) = false := z
      rw [show 4 * (x / 4) + x % 4 = x by omega, fq_wo_e (Ne.symm e)] at z
      have z : S x = true := by cases q : S x; exact absurd q z; rfl
      rw [z] at h
      exact h
theorem fq_ins53 (fl fg fc : Int32) {lo hi pt bt : Nat → Int32} {c y g : Nat} {R R' : Nat → Bool} (hc : c < 17) (hy : y < 16) (hg : g < 16) (hH : hi c = nI g) (hP : fq_P pt bt c R) (hR : ∀ z, z < 16 → R' z = fq_wi R y z) :
    ∃ (hi' pt' bt' : Nat → Int32) (g' : Nat), (g' = g ∧ y ≤ g ∨ g' = y ∧ g < y) ∧ hi' c = nI g' ∧ fq_P pt' bt' c R' ∧ fq_F c lo hi pt bt lo hi' pt' bt' ∧ ∀ post : SX → Prop, post (fl, fg, fc, lo, hi', pt', bt') → wX_insertInto_53 post (nI c) (nI y) fl fg fc lo hi pt bt := by
  obtain ⟨pt', bt', a1, a2, a3⟩ := fq_putBit fl fg fc (lo := lo) (hi := hi) hc hy hP hR
  by_cases e : y ≤ g
  · refine ⟨hi, pt', bt', g, Or.inl ⟨rfl, e⟩, hH, a1, a2, fun post h => ?_⟩
    unfold wX_insertInto_53
    refine a3 _ ?_
    dsimp only
    rw [nI_clamp (n := c) (by omega), hH]
    exact ⟨vp_in_nI hc (by decide), br_t (nI_le e (by omega)) h⟩
  · refine ⟨upd hi c (nI y), pt', bt', y, Or.inr ⟨rfl, by omega⟩, pk_us, a1, fq_F_t a2 fq_F_hi, fun post h => ?_⟩
    unfold wX_insertInto_53
    refine a3 _ ?_
    dsimp only
    rw [nI_clamp (n := c) (by omega), hH, fq_by y hy]
    exact ⟨vp_in_nI hc (by decide), br_f (nI_ge (by omega) (by omega)) ⟨vp_in_nI hc (by decide), nm_e h⟩⟩
theorem fq_ins (fl fg fc : Int32) {lo hi pt bt : Nat → Int32} {c x : Nat} {S S' : Nat → Bool} (hc : c < 17) (hx : x < 16) (hS : S x = false) (hC : fq_Cl lo hi pt bt c S) (hS' : ∀ y, y < 16 → S' y = fq_wi S x y) :
    ∃ lo' hi' pt' bt' : Nat → Int32, fq_Cl lo' hi' pt' bt' c S' ∧ fq_F c lo hi pt bt lo' hi' pt' bt' ∧ ∀ post : SX → Prop, post (fl, fg, fc, lo', hi', pt', bt') → wpX_insertInto post (fl, fg, fc, lo, hi, pt, bt) (nI c) (nI x) := by
  have hSx : S' x = true := (hS' x hx).trans fq_wi_l
  rcases hC with ⟨h1, h2, h3, h4⟩ | ⟨l, g, h1, h2, h3, h4, h5, h6, h7, h8⟩
  · have hn : ∀ y, y < 16 → S' y = true → y = x := by
      intro y hy e
      rw [hS' y hy] at e
      rcases fq_wi_c e with e | e
      · exact (fq_tf e (h1 y hy)).elim
      · exact e
    refine ⟨upd lo c (nI x), upd hi c (nI x), pt, bt, Or.inr ⟨x, x, hx, hx, hSx, hSx, fun y hy e => ?_, pk_us, pk_us, fq_P_c (fun y hy => ?_) h4⟩, fq_F_t fq_F_lo fq_F_hi, fun post h => ?_⟩
    · have := hn y hy e; omega
    · refine (fq_nt fun e => ?_).symm
      exact fq_wo_n e (hn y hy (fq_wo_S e))
    · unfold wpX_insertInto
      dsimp only
      rw [nI_clamp (n := c) (by omega), h2, fq_by x hx]
      exact ⟨vp_in_nI hc (by decide), br_f fq_n0 ⟨vp_in_nI hc (by decide), nm_e ⟨vp_in_nI hc (by decide), nm_e h⟩⟩⟩
  · have hne : x ≠ l := fun e => fq_tf h3 (e ▸ hS)
    have hup : ∀ y, y < 16 → S' y = true → y = x ∨ (l ≤ y ∧ y ≤ g) := by
      intro y hy e
      rw [hS' y hy] at e
      rcases fq_wi_c e with e | e
      · exact Or.inr (h5 y hy e)
      · exact Or.inl e
    have hin : ∀ y, y < 16 → S y = true → S' y = true := fun y hy e => (hS' y hy).trans (fq_wi_t e)
    by_cases e : l ≤ x
    · have hR : ∀ z, z < 16 → fq_wo S' l z = fq_wi (fq_wo S l) x z := by
        intro z hz
        by_cases ez : z = x
        · subst ez
          rw [fq_wi_l]
          exact fq_wo_t hSx hne
        · rw [fq_wi_e ez]
          unfold fq_wo
          rw [hS' z hz, fq_wi_e ez]
      obtain ⟨hi', pt', bt', g', b1, b2, b3, b4, b5⟩ := fq_ins53 fl fg fc (lo := lo) hc hx h2 h7 h8 hR
      refine ⟨lo, hi', pt', bt', Or.inr ⟨l, g', h1, by omega, hin l h1 h3, ?_, fun y hy ey => ?_, h6, b2, b3⟩, b4, fun post h => ?_⟩
      · rcases b1 with ⟨rfl, _⟩ | ⟨rfl, _⟩
        · exact hin _ h2 h4
        · exact hSx
      · have := hup y hy ey
        omega
      · unfold wpX_insertInto
        dsimp only
        rw [nI_clamp (n := c) (by omega), h6]
        exact ⟨vp_in_nI hc (by decide), br_t (nI_pos' (by omega)) ⟨vp_in_nI hc (by decide), br_t (nI_le e (by omega)) (b5 post h)⟩⟩
    · have hlg := (h5 l h1 h3).2
      have hR : ∀ z, z < 16 → fq_wo S' x z = fq_wi (fq_wo S l) l z := by
        intro z hz
        by_cases ez : z = l
        · subst ez
          rw [fq_wi_l]
          exact fq_wo_t (hin z hz h3) (Ne.symm hne)
        · rw [fq_wi_e ez, fq_wo_e ez]
          by_cases ex : z = x
          · subst ex
            rw [fq_wo_l, hS]
          · rw [fq_wo_e ex, hS' z hz, fq_wi_e ex]
      obtain ⟨hi', pt', bt', g', b1, b2, b3, b4, b5⟩ := fq_ins53 fl fg fc (lo := upd lo c (nI x)) hc h1 h2 h7 h8 hR
      refine ⟨upd lo c (nI x), hi', pt', bt', Or.inr ⟨x, g', hx, by omega, hSx, ?_, fun y hy ey => ?_, pk_us, b2, b3⟩, fq_F_t fq_F_lo b4, fun post h => ?_⟩
      · rcases b1 with ⟨rfl, _⟩ | ⟨rfl, _⟩
        · exact hin _ h2 h4
        · exact hin _ h1 h3
      · have := hup y hy ey
        omega
      · unfold wpX_insertInto
        dsimp only
        rw [nI_clamp (n := c) (by omega), h6, fq_by x hx]
        exact ⟨vp_in_nI hc (by decide), br_t (nI_pos' (by omega)) ⟨vp_in_nI hc (by decide), br_f (nI_ge (by omega) (by omega)) ⟨vp_in_nI hc (by decide), nm_e ⟨vp_in_nI hc (by decide), nm_e (b5 post h)⟩⟩⟩⟩
/-- the end of deleteFrom: the new greatest member -/
theorem fq_del36 (fl fg fc : Int32) {lo hi pt bt : Nat → Int32} {c l : Nat} {S : Nat → Bool} (hc : c < 17) (hl : l < 16) (hS : S l = true) (hm : ∀ x, x < 16 → S x = true → l ≤ x) (hL : lo c = nI l) (hP : fq_P pt bt c (fq_wo S l)) :
    ∃ hi' : Nat → Int32, fq_Cl lo hi' pt bt c S ∧ fq_F c lo hi pt bt lo hi' pt bt ∧ ∀ post : SX → Prop, post (fl, fg, fc, lo, hi', pt, bt) → wX_deleteFrom_36 post (nI c) fl fg fc lo hi pt bt := by
  obtain ⟨r, hr, hw⟩ := fq_greatP fl fg fc (lo := lo) (hi := hi) hc hP
  rcases hr with ⟨y, a1, a2, a3, a4, rfl⟩ | ⟨a1, rfl⟩
  · refine ⟨upd hi c (nI y), Or.inr ⟨l, y, hl, a1, hS, fq_wo_S a2, fun x hx e => ⟨hm x hx e, ?_⟩, hL, pk_us, hP⟩, fq_F_hi, fun post h => ?_⟩
    · by_cases ex : x = l
      · have := hm y a1 (fq_wo_S a2); omega
      · exact a4 x hx (fq_wo_t e ex) (by omega)
    · unfold wX_deleteFrom_36
      refine hw _ ?_
      rw [nI_clamp (n := c) (by omega), fq_by y a1]
      exact br_f (nI_pos (by omega)) ⟨vp_in_nI hc (by decide), nm_e h⟩
  · refine ⟨upd hi c (nI l), Or.inr ⟨l, l, hl, hl, hS, hS, fun x hx e => ⟨hm x hx e, ?_⟩, hL, pk_us, hP⟩, fq_F_hi, fun post h => ?_⟩
    · by_cases ex : x = l
      · omega
      · exact absurd (by omega) (a1 x hx (fq_wo_t e ex))
    · unfold wX_deleteFrom_36
      refine hw _ ?_
      rw [nI_clamp (n := c) (by omega), hL, fq_by l hl]
      exact br_t fq_neg ⟨vp_in_nI hc (by decide), vp_in_nI hc (by decide), nm_e h⟩
theorem fq_del36e (fl fg fc : Int32) {lo hi pt bt : Nat → Int32} {c : Nat} {S : Nat → Bool} (hc : c < 17) (hS : ∀ x, x < 16 → S x = false) (hL : lo c = -1) (hP : fq_P pt bt c (fun _ => false)) :
    ∃ hi' : Nat → Int32, fq_Cl lo hi' pt bt c S ∧ fq_F c lo hi pt bt lo hi' pt bt ∧ ∀ post : SX → Prop, post (fl, fg, fc, lo, hi', pt, bt) → wX_deleteFrom_36 post (nI c) fl fg fc lo hi pt bt := by
  obtain ⟨r, hr, hw⟩ := fq_greatP fl fg fc (lo := lo) (hi := hi) hc hP
  rcases hr with ⟨y, a1, a2, a3, a4, rfl⟩ | ⟨a1, rfl⟩
  · cases a2
  · refine ⟨upd hi c (-1), Or.inl ⟨hS, hL, pk_us, hP⟩, fq_F_hi, fun post h => ?_⟩
    unfold wX_deleteFrom_36
    refine hw _ ?_
    rw [nI_clamp (n := c) (by omega), hL, fq_bm]
    exact br_t fq_neg ⟨vp_in_nI hc (by decide), vp_in_nI hc (by decide), nm_e h⟩
theorem fq_del (fl fg fc : Int32) {lo hi pt bt : Nat → Int32} {c x : Nat} {S S' : Nat → Bool} (hc : c < 17) (hx : x < 16) (hS : S x = true) (hC : fq_Cl lo hi pt bt c S) (hS' : ∀ y, y < 16 → S' y = fq_wo S x y) :
    ∃ lo' hi' pt' bt' : Nat → Int32, fq_Cl lo' hi' pt' bt' c S' ∧ fq_F c lo hi pt bt lo' hi' pt' bt' ∧ ∀ post : SX → Prop, post (fl, fg, fc, lo', hi', pt', bt') → wpX_deleteFrom post (fl, fg, fc, lo, hi, pt, bt) (nI c) (nI x) := by
  rcases hC with ⟨h1, h2, h3, h4⟩ | ⟨l, g, h1, h2, h3, h4, h5, h6, h7, h8⟩
  · exact (fq_tf hS (h1 x hx)).elim
  · by_cases e : x = l
    · subst e
      obtain ⟨r, hr, hw⟩ := fq_leastP fl fg fc (lo := lo) (hi := hi) hc h8
      rcases hr with ⟨y, a1, a2, a3, a4, rfl⟩ | ⟨a1, rfl⟩
      · have hR : ∀ z, z < 16 → fq_wo S' y z = fq_wo (fq_wo S x) y z := by
          intro z hz
          show (S' z && !(y == z)) = (fq_wo S x z && !(y == z))
          rw [hS' z hz]
        obtain ⟨pt', bt', b1, b2, b3⟩ := fq_takeBit fl fg fc (lo := upd lo c (nI y)) (hi := hi) hc a1 h8 hR
        obtain ⟨hi', c1, c2, c3⟩ := fq_del36 fl fg fc (lo := upd lo c (nI y)) (hi := hi) (S := S') hc a1 ((hS' y a1).trans a2) (fun z hz ez => a4 z hz ((hS' z hz).symm.trans ez) (by omega)) pk_us b1
        refine ⟨upd lo c (nI y), hi', pt', bt', c1, fq_F_t fq_F_lo (fq_F_t b2 c2), fun post h => ?_⟩
        unfold wpX_deleteFrom
        dsimp only
        rw [nI_clamp (n := c) (by omega), h6]
        refine ⟨vp_in_nI hc (by decide), br_t rfl (hw _ ⟨vp_in_nI hc (by decide), nm_r (e' := upd lo c (nI y)) (by rw [fq_by y a1]) ?_⟩)⟩
        unfold wX_deleteFrom_26
        exact br_f (nI_pos (by omega)) (b3 _ (c3 post h))
      · have hE : ∀ z, z < 16 → fq_wo S x z = false := fun z hz => fq_nt fun q => a1 z hz q (by omega)
        obtain ⟨hi', c1, c2, c3⟩ := fq_del36e fl fg fc (lo := upd lo c (-1)) (hi := hi) (S := S') hc (fun z hz => (hS' z hz).trans (hE z hz)) pk_us (fq_P_c hE h8)
        refine ⟨upd lo c (-1), hi', pt, bt, c1, fq_F_t fq_F_lo c2, fun post h => ?_⟩
        unfold wpX_deleteFrom
        dsimp only
        rw [nI_clamp (n := c) (by omega), h6]
        refine ⟨vp_in_nI hc (by decide), br_t rfl (hw _ ⟨vp_in_nI hc (by decide), nm_r (e' := upd lo c (-1)) (by rw [fq_bm]) ?_⟩)⟩
        unfold wX_deleteFrom_26
        exact br_t fq_neg (c3 post h)
    · have hR : ∀ z, z < 16 → fq_wo S' l z = fq_wo (fq_wo S l) x z := by
        intro z hz
        show (S' z && !(l == z)) = ((S z && !(l == z)) && !(x == z))
        rw [hS' z hz]
        show ((S z && !(x == z)) && !(l == z)) = _
        rw [Bool.and_assoc, Bool.and_assoc, Bool.and_comm (!(x == z))]
      obtain ⟨pt', bt', b1, b2, b3⟩ := fq_takeBit fl fg fc (lo := lo) (hi := hi) hc hx h8 hR
      obtain ⟨hi', c1, c2, c3⟩ := fq_del36 fl fg fc (lo := lo) (hi := hi) (S := S') hc h1 ((hS' l h1).trans (fq_wo_t h3 (Ne.symm e))) (fun z hz ez => (h5 z hz (fq_wo_S ((hS' z hz).symm.trans ez))).1) h6 b1
      refine ⟨lo, hi', pt', bt', c1, fq_F_t b2 c2, fun post h => ?_⟩
      unfold wpX_deleteFrom
      dsimp only
      rw [nI_clamp (n := c) (by omega), h6]
      refine ⟨vp_in_nI hc (by decide), br_f (fun q => e ((nI_eq (by omega) (by omega)).mp q)) ?_⟩
      unfold wX_deleteFrom_26
      exact br_f (nI_pos (by omega)) (b3 _ (c3 post h))
end
section
theorem fq_afterIn (fl fg fc : Int32) {lo hi pt bt : Nat → Int32} {c x : Nat} {S : Nat → Bool} (hc : c < 17) (hx : x < 16) (hC : fq_Cl lo hi pt bt c S) :
    ∃ r : Int32, fq_Aft 16 S x r ∧ ∀ post : Int32 → Prop, post r → wpX_afterIn post (fl, fg, fc, lo, hi, pt, bt) (nI c) (nI x) := by
  have q4 : x / 4 < 4 := by omega
  have m4 : x % 4 < 4 := by omega
  have hin : vp_in (nI c) 17 := vp_in_nI hc (by decide)
  rcases hC with ⟨h1, h2, h3, h4⟩ | ⟨l, g, h1, h2, h3, h4, h5, h6, h7, hp, hb⟩
  · refine ⟨-1, Or.inr ⟨fun z hz e => (fq_tf e (h1 z hz)).elim, rfl⟩, fun post h => ?_⟩
    unfold wpX_afterIn
    dsimp only
    rw [nI_clamp (n := c) (by omega), h2, h3]
    exact ⟨hin, br_t (fq_leI (by omega)) ⟨hin, br_f (fq_ltI (by omega)) h⟩⟩
  by_cases hl : l ≤ x
  rotate_left
  · refine ⟨nI l, Or.inl ⟨l, h1, h3, by omega, fun z hz e _ => (h5 z hz e).1, rfl⟩, fun post h => ?_⟩
    unfold wpX_afterIn
    dsimp only
    rw [nI_clamp (n := c) (by omega), h6]
    exact ⟨hin, br_f (nI_ge (by omega) (by omega)) ⟨hin, h⟩⟩
  by_cases hg : x < g
  rotate_left
  · refine ⟨-1, Or.inr ⟨fun z hz e => ?_, rfl⟩, fun post h => ?_⟩
    · have := (h5 z hz e).2; omega
    · unfold wpX_afterIn
      dsimp only
      rw [nI_clamp (n := c) (by omega), h6, h7]
      exact ⟨hin, br_t (nI_le hl (by omega)) ⟨hin, br_f (nI_nlt (by omega) (by omega)) h⟩⟩
  have hR : ∀ z, z < 16 → S z = true → (x : Int) < z → fq_wo S l z = true := fun z hz e h => fq_wo_t e (by omega)
  cases ha : fq_any (fun k => fq_pb (fq_wo S l) (x / 4) k && decide (x % 4 < k))
  · have hno : ∀ z, z < 16 → S z = true → (x : Int) < z → x / 4 < z / 4 := by
      intro z hz e h
      have t := hR z hz e h
      refine Nat.lt_of_not_le fun q => ?_
      have e4 : z / 4 = x / 4 := by omega
      have t2 := fq_pb_t t
      have f := fq_any_f ha (z % 4) (by omega)
      rw [e4] at t2
      rw [t2, decide_eq_true (show x % 4 < z % 4 by omega)] at f
      cases f
    have hgR := hR g h2 h4 (by omega)
    have hgn := hno g h2 h4 (by omega)
    have hl8 : fq_any (fun k => fq_pa (fq_wo S l) k && decide (x / 4 < k)) = true := by
      refine fq_any_t (j := g / 4) (by omega) ?_
      rw [fq_pa_t hgR, decide_eq_true hgn]; rfl
    obtain ⟨i4, it, im⟩ := fq_L_sp _ hl8
    generalize hi0 : fq_L (fun k => fq_pa (fq_wo S l) k && decide (x / 4 < k)) = i at i4 it im
    have it1 : fq_pa (fq_wo S l) i = true := by
      cases q : fq_pa (fq_wo S l) i
      · rw [q] at it; cases it
      · rfl
    have it2 : x / 4 < i := by
      rw [it1] at it
      exact of_decide_eq_true it
    obtain ⟨j4, jt, jm⟩ := fq_first i4 it1
    refine ⟨_, Or.inl ⟨_, ?_, fq_wo_S jt, ?_, fun z hz e h => ?_, rfl⟩, fun post h => ?_⟩
    · omega
    · omega
    · have t := hR z hz e h
      by_cases ei : z / 4 = i
      · exact jm z ei t
      · have n := hno z hz e h
        have : ¬ z / 4 < i := fun q => by
          have f := im _ q
          rw [fq_pa_t t, decide_eq_true n] at f
          cases f
        omega
    · unfold wpX_afterIn
      dsimp only
      rw [nI_clamp (n := c) (by omega), h6, h7, fq_sh2 (by omega), fq_a3 (by omega)]
      refine ⟨hin, br_t (nI_le hl (by omega)) ⟨hin, br_t (nI_lt hg (by omega)) ?_⟩⟩
      refine nm_e ?_
      rw [fq_cell, nI_clamp (n := 4 * c + x / 4) (by omega), hb _ q4, fq_E_abv _ m4, hp, fq_E_abv _ q4]
      refine ⟨vp_in_nI (by omega) (by decide), nm_e (br_t ((fq_E_z _).mpr ha) ⟨hin, nm_e (fq_lowE ?_)⟩)⟩
      rw [hi0, fq_cell, nI_clamp (n := 4 * c + i) (by omega), hb _ i4]
      refine ⟨vp_in_nI (by omega) (by decide), nm_e (fq_lowE ?_)⟩
      rw [fq_x4]
      exact h
  · obtain ⟨i4, it, im⟩ := fq_L_sp _ ha
    generalize hi0 : fq_L (fun k => fq_pb (fq_wo S l) (x / 4) k && decide (x % 4 < k)) = i at i4 it im
    have it1 : fq_wo S l (4 * (x / 4) + i) = true := by
      cases q : fq_pb (fq_wo S l) (x / 4) i
      · rw [q] at it; cases it
      · exact q
    have it2 : x % 4 < i := by
      rw [show fq_pb (fq_wo S l) (x / 4) i = true from it1] at it
      exact of_decide_eq_true it
    refine ⟨_, Or.inl ⟨4 * (x / 4) + i, ?_, fq_wo_S it1, ?_, fun z hz e h => ?_, rfl⟩, fun post h => ?_⟩
    · omega
    · omega
    · have t := hR z hz e h
      by_cases ei : z / 4 = x / 4
      · have t2 := fq_pb_t t
        rw [ei] at t2
        have : ¬ z % 4 < i := fun q => by
          have f := im _ q
          rw [t2, decide_eq_true (show x % 4 < z % 4 by omega)] at f
          cases f
        omega
      · omega
    · unfold wpX_afterIn
      dsimp only
      rw [nI_clamp (n := c) (by omega), h6, h7, fq_sh2 (by omega), fq_a3 (by omega)]
      refine ⟨hin, br_t (nI_le hl (by omega)) ⟨hin, br_t (nI_lt hg (by omega)) ?_⟩⟩
      refine nm_e ?_
      rw [fq_cell, nI_clamp (n := 4 * c + x / 4) (by omega), hb _ q4, fq_E_abv _ m4]
      refine ⟨vp_in_nI (by omega) (by decide), nm_e (br_f (fun z => fq_tf ha ((fq_E_z _).mp z)) (fq_lowE ?_))⟩
      rw [hi0, fq_x4]
      exact h
theorem fq_beforeIn (fl fg fc : Int32) {lo hi pt bt : Nat → Int32} {c x : Nat} {S : Nat → Bool} (hc : c < 17) (hx : x < 16) (hC : fq_Cl lo hi pt bt c S) :
    ∃ r : Int32, fq_Bef 16 S x r ∧ ∀ post : Int32 → Prop, post r → wpX_beforeIn post (fl, fg, fc, lo, hi, pt, bt) (nI c) (nI x) := by
  have q4 : x / 4 < 4 := by omega
  have m4 : x % 4 < 4 := by omega
  have hin : vp_in (nI c) 17 := vp_in_nI hc (by decide)
  rcases hC with ⟨h1, h2, h3, h4⟩ | ⟨l, g, h1, h2, h3, h4, h5, h6, h7, hp, hb⟩
  · refine ⟨-1, Or.inr ⟨fun z hz e => (fq_tf e (h1 z hz)).elim, rfl⟩, fun post h => ?_⟩
    unfold wpX_beforeIn
    dsimp only
    rw [nI_clamp (n := c) (by omega), h2]
    exact ⟨hin, br_t fq_neg h⟩
  by_cases hl : l < x
  rotate_left
  · refine ⟨-1, Or.inr ⟨fun z hz e => ?_, rfl⟩, fun post h => ?_⟩
    · have := (h5 z hz e).1; omega
    · unfold wpX_beforeIn
      dsimp only
      rw [nI_clamp (n := c) (by omega), h6]
      exact ⟨hin, br_f (nI_pos (by omega)) ⟨hin, br_f (nI_nlt (by omega) (by omega)) h⟩⟩
  by_cases hg : x ≤ g
  rotate_left
  · refine ⟨nI g, Or.inl ⟨g, h2, h4, by omega, fun z hz e _ => (h5 z hz e).2, rfl⟩, fun post h => ?_⟩
    unfold wpX_beforeIn
    dsimp only
    rw [nI_clamp (n := c) (by omega), h6, h7]
    exact ⟨hin, br_f (nI_pos (by omega)) ⟨hin, br_t (nI_lt hl (by omega)) ⟨hin, br_f (nI_ge (by omega) (by omega)) ⟨hin, h⟩⟩⟩⟩
  cases ha : fq_any (fun k => fq_pb (fq_wo S l) (x / 4) k && decide (k < x % 4))
  · have hno : ∀ z, z < 16 → fq_wo S l z = true → (z : Int) < x → z / 4 < x / 4 := by
      intro z hz t h
      refine Nat.lt_of_not_le fun q => ?_
      have e4 : z / 4 = x / 4 := by omega
      have t2 := fq_pb_t t
      have f := fq_any_f ha (z % 4) (by omega)
      rw [e4] at t2
      rw [t2, decide_eq_true (show z % 4 < x % 4 by omega)] at f
      cases f
    cases hl8 : fq_any (fun k => fq_pa (fq_wo S l) k && decide (k < x / 4))
    · refine ⟨nI l, Or.inl ⟨l, h1, h3, by omega, fun z hz e h => ?_, rfl⟩, fun post h => ?_⟩
      · refine Nat.le_of_not_lt fun q => ?_
        have t := fq_wo_t e (show z ≠ l by omega)
        have n := hno z hz t h
        have f := fq_any_f hl8 (z / 4) (by omega)
        rw [fq_pa_t t, decide_eq_true n] at f
        cases f
      · unfold wpX_beforeIn
        dsimp only
        rw [nI_clamp (n := c) (by omega), h6, h7, fq_sh2 (by omega), fq_a3 (by omega)]
        refine ⟨hin, br_f (nI_pos (by omega)) ⟨hin, br_t (nI_lt hl (by omega)) ⟨hin, br_t (nI_le hg (by omega)) ?_⟩⟩⟩
        refine nm_e ?_
        rw [fq_cell, nI_clamp (n := 4 * c + x / 4) (by omega), hb _ q4, fq_E_bel _ m4, hp, fq_E_bel _ q4]
        exact ⟨vp_in_nI (by omega) (by decide), nm_e (br_t ((fq_E_z _).mpr ha) ⟨hin, nm_e (br_t ((fq_E_z _).mpr hl8) ⟨hin, h⟩)⟩)⟩
    · obtain ⟨i4, it, im⟩ := fq_H_sp _ hl8
      generalize hi0 : fq_H (fun k => fq_pa (fq_wo S l) k && decide (k < x / 4)) = i at i4 it im
      have it1 : fq_pa (fq_wo S l) i = true := by
        cases q : fq_pa (fq_wo S l) i
        · rw [q] at it; cases it
        · rfl
      have it2 : i < x / 4 := by
        rw [it1] at it
        exact of_decide_eq_true it
      obtain ⟨j4, jt, jm⟩ := fq_last i4 it1
      have hly := (h5 _ (by omega) (fq_wo_S jt)).1
      refine ⟨_, Or.inl ⟨_, ?_, fq_wo_S jt, ?_, fun z hz e h => ?_, rfl⟩, fun post h => ?_⟩
      · omega
      · omega
      · by_cases el : z = l
        · omega
        · have t := fq_wo_t e el
          by_cases ei : z / 4 = i
          · exact jm z ei t
          · have n := hno z hz t h
            have : ¬ i < z / 4 := fun q => by
              have f := im (z / 4) (by omega) q
              rw [fq_pa_t t, decide_eq_true n] at f
              cases f
            omega
      · unfold wpX_beforeIn
        dsimp only
        rw [nI_clamp (n := c) (by omega), h6, h7, fq_sh2 (by omega), fq_a3 (by omega)]
        refine ⟨hin, br_f (nI_pos (by omega)) ⟨hin, br_t (nI_lt hl (by omega)) ⟨hin, br_t (nI_le hg (by omega)) ?_⟩⟩⟩
        refine nm_e ?_
        rw [fq_cell, nI_clamp (n := 4 * c + x / 4) (by omega), hb _ q4, fq_E_bel _ m4, hp, fq_E_bel _ q4]
        refine ⟨vp_in_nI (by omega) (by decide), nm_e (br_t ((fq_E_z _).mpr ha) ⟨hin, nm_e (br_f (fun z => fq_tf hl8 ((fq_E_z _).mp z)) (fq_highE ?_))⟩)⟩
        rw [hi0, fq_cell, nI_clamp (n := 4 * c + i) (by omega), hb _ i4]
        refine ⟨vp_in_nI (by omega) (by decide), nm_e (fq_highE ?_)⟩
        rw [fq_x4]
        exact h
  · obtain ⟨i4, it, im⟩ := fq_H_sp _ ha
    generalize hi0 : fq_H (fun k => fq_pb (fq_wo S l) (x / 4) k && decide (k < x % 4)) = i at i4 it im
    have it1 : fq_wo S l (4 * (x / 4) + i) = true := by
      cases q : fq_pb (fq_wo S l) (x / 4) i
      · rw [q] at it; cases it
      · exact q
    have it2 : i < x % 4 := by
      rw [show fq_pb (fq_wo S l) (x / 4) i = true from it1] at it
      exact of_decide_eq_true it
    have hly := (h5 _ (by omega) (fq_wo_S it1)).1
    refine ⟨_, Or.inl ⟨4 * (x / 4) + i, ?_, fq_wo_S it1, ?_, fun z hz e h => ?_, rfl⟩, fun post h => ?_⟩
    · omega
    · omega
    · by_cases el : z = l
      · omega
      · have t := fq_wo_t e el
        by_cases ei : z / 4 = x / 4
        · have t2 := fq_pb_t t
          rw [ei] at t2
          have : ¬ i < z % 4 := fun q => by
            have f := im (z % 4) (by omega) q
            rw [t2, decide_eq_true (show z % 4 < x % 4 by omega)] at f
            cases f
          omega
        · omega
    · unfold wpX_beforeIn
      dsimp only
      rw [nI_clamp (n := c) (by omega), h6, h7, fq_sh2 (by omega), fq_a3 (by omega)]
      refine ⟨hin, br_f (nI_pos (by omega)) ⟨hin, br_t (nI_lt hl (by omega)) ⟨hin, br_t (nI_le hg (by omega)) ?_⟩⟩⟩
      refine nm_e ?_
      rw [fq_cell, nI_clamp (n := 4 * c + x / 4) (by omega), hb _ q4, fq_E_bel _ m4]
      refine ⟨vp_in_nI (by omega) (by decide), nm_e (br_f (fun z => fq_tf ha ((fq_E_z _).mp z)) (fq_highE ?_))⟩
      rw [hi0, fq_x4]
      exact h
end
section
/-- cluster c of U; whether it holds something -/
def fq_cl (U : Nat → Bool) (c : Nat) : Nat → Bool := fun x => U (16 * c + x)
def fq_nz (U : Nat → Bool) (c : Nat) : Bool := (List.range 16).any (fq_cl U c)
theorem fq_nz_i {U : Nat → Bool} {c x : Nat} (hx : x < 16) (h : U (16 * c + x) = true) : fq_nz U c = true := by
  unfold fq_nz
  rw [List.any_eq_true]
  exact ⟨x, List.mem_range.mpr hx, h⟩
theorem fq_nz_t {U : Nat → Bool} {z : Nat} (h : U z = true) : fq_nz U (z / 16) = true :=
  fq_nz_i (x := z % 16) (by omega) (by rw [show 16 * (z / 16) + z % 16 = z by omega]; exact h)
theorem fq_nz_e {U : Nat → Bool} {c : Nat} (h : fq_nz U c = true) : ∃ x, x < 16 ∧ U (16 * c + x) = true := by
  unfold fq_nz at h
  rw [List.any_eq_true] at h
  obtain ⟨x, a, b⟩ := h
  exact ⟨x, List.mem_range.mp a, b⟩
theorem fq_nz_f {U : Nat → Bool} {c : Nat} (h : ∀ x, x < 16 → U (16 * c + x) = false) : fq_nz U c = false := by
  refine fq_nt fun q => ?_
  obtain ⟨x, hx, e⟩ := fq_nz_e q
  exact fq_tf e (h x hx)
theorem fq_nz_c {U U' : Nat → Bool} {c : Nat} (h : ∀ x, x < 16 → U (16 * c + x) = U' (16 * c + x)) : fq_nz U c = fq_nz U' c := by
  cases q : fq_nz U' c
  · refine fq_nz_f fun x hx => ?_
    rw [h x hx]
    exact fq_nt fun z => fq_tf (fq_nz_i hx z) q
  · obtain ⟨x, hx, e⟩ := fq_nz_e q
    exact fq_nz_i hx ((h x hx).trans e)
/-- clusters and summary hold U -/
def fq_W (lo hi pt bt : Nat → Int32) (U : Nat → Bool) : Prop :=
  (∀ c, c < 16 → fq_Cl lo hi pt bt c (fq_cl U c)) ∧ fq_Cl lo hi pt bt 16 (fq_nz U)
theorem fq_W_c {lo hi pt bt : Nat → Int32} {U U' : Nat → Bool} (h : ∀ z, z < 256 → U z = U' z) (hW : fq_W lo hi pt bt U) : fq_W lo hi pt bt U' :=
  ⟨fun c hc => fq_Cl_c (fun x hx => h _ (by omega)) (hW.1 c hc), fq_Cl_c (fun c hc => fq_nz_c fun x hx => h _ (by omega)) hW.2⟩
/-- the least and the greatest member, as the summary gives them -/
theorem fq_W_ends {lo hi pt bt : Nat → Int32} {U : Nat → Bool} (hW : fq_W lo hi pt bt U) :
    ((∀ z, z < 256 → U z = false) ∧ lo 16 = -1 ∧ hi 16 = -1) ∨
    ((∃ c l : Nat, c < 16 ∧ l < 16 ∧ lo 16 = nI c ∧ lo c = nI l ∧ U (16 * c + l) = true ∧ ∀ z, z < 256 → U z = true → 16 * c + l ≤ z) ∧
     (∃ d k : Nat, d < 16 ∧ k < 16 ∧ hi 16 = nI d ∧ hi d = nI k ∧ U (16 * d + k) = true ∧ ∀ z, z < 256 → U z = true → z ≤ 16 * d + k)) := by
  obtain ⟨hA, hB⟩ := hW
  rcases hB with ⟨h1, h2, h3, h4⟩ | ⟨c, d, h1, h2, h3, h4, h5, h6, h7, h8⟩
  · exact Or.inl ⟨fun z hz => fq_nt fun q => fq_tf (fq_nz_t q) (h1 _ (by omega)), h2, h3⟩
  · refine Or.inr ⟨?_, ?_⟩
    · rcases hA c h1 with ⟨g1, g2, g3, g4⟩ | ⟨l, k, g1, g2, g3, g4, g5, g6, g7, g8⟩
      · obtain ⟨x, hx, e⟩ := fq_nz_e h3
        exact (fq_tf e (g1 x hx)).elim
      · refine ⟨c, l, h1, g1, h6, g6, g3, fun z hz e => ?_⟩
        have a := (h5 (z / 16) (by omega) (fq_nz_t e)).1
        by_cases q : z / 16 = c
        · have b := (g5 (z % 16) (by omega) (by show U (16 * c + z % 16) = true; rw [show 16 * c + z % 16 = z by omega]; exact e)).1
          omega
        · omega
    · rcases hA d h2 with ⟨g1, g2, g3, g4⟩ | ⟨l, k, g1, g2, g3, g4, g5, g6, g7, g8⟩
      · obtain ⟨x, hx, e⟩ := fq_nz_e h4
        exact (fq_tf e (g1 x hx)).elim
      · refine ⟨d, k, h2, g2, h7, g7, g4, fun z hz e => ?_⟩
        have a := (h5 (z / 16) (by omega) (fq_nz_t e)).2
        by_cases q : z / 16 = d
        · have b := (g5 (z % 16) (by omega) (by show U (16 * d + z % 16) = true; rw [show 16 * d + z % 16 = z by omega]; exact e)).2
          omega
        · omega
theorem fq_cl_wi {U U' : Nat → Bool} {y : Nat} (hy : y < 256) (h : ∀ z, z < 256 → U' z = fq_wi U y z) : ∀ x, x < 16 → fq_cl U' (y / 16) x = fq_wi (fq_cl U (y / 16)) (y % 16) x := by
  intro x hx
  show U' (16 * (y / 16) + x) = (U (16 * (y / 16) + x) || y % 16 == x)
  rw [h _ (by omega)]
  show (U (16 * (y / 16) + x) || y == (16 * (y / 16) + x)) = _
  rw [fq_bc (a := y) (b := 16 * (y / 16) + x) (c := y % 16) (d := x) (by omega)]
theorem fq_cl_wo {U U' : Nat → Bool} {y : Nat} (hy : y < 256) (h : ∀ z, z < 256 → U' z = fq_wo U y z) : ∀ x, x < 16 → fq_cl U' (y / 16) x = fq_wo (fq_cl U (y / 16)) (y % 16) x := by
  intro x hx
  show U' (16 * (y / 16) + x) = (U (16 * (y / 16) + x) && !(y % 16 == x))
  rw [h _ (by omega)]
  show (U (16 * (y / 16) + x) && !(y == (16 * (y / 16) + x))) = _
  rw [fq_bc (a := y) (b := 16 * (y / 16) + x) (c := y % 16) (d := x) (by omega)]
theorem fq_ins90 (fl fc : Int32) {lo hi pt bt : Nat → Int32} {y g : Nat} {U U' : Nat → Bool} (hy : y < 256) (hU : U y = false) (hA : ∀ c, c < 16 → fq_Cl lo hi pt bt c (fq_cl U c)) (hB : fq_Cl lo hi pt bt 16 (fq_nz U')) (hU' : ∀ z, z < 256 → U' z = fq_wi U y z) (hg : g < 256) :
    ∃ (lo' hi' pt' bt' : Nat → Int32) (g' : Nat), (g' = g ∧ y ≤ g ∨ g' = y ∧ g < y) ∧ fq_W lo' hi' pt' bt' U' ∧ ∀ post : Int32 → SX → Prop, post 1 (fl, nI g', fc, lo', hi', pt', bt') → wX_insert_90 post (nI y) (nI (y / 16)) fl (nI g) fc lo hi pt bt := by
  obtain ⟨lo', hi', pt', bt', a1, a2, a3⟩ := fq_ins fl (nI g) fc (c := y / 16) (x := y % 16) (S := fq_cl U (y / 16)) (S' := fq_cl U' (y / 16)) (by omega) (by omega) (by show U (16 * (y / 16) + y % 16) = false; rw [show 16 * (y / 16) + y % 16 = y by omega]; exact hU) (hA _ (by omega)) (fq_cl_wi hy hU')
  have hW : fq_W lo' hi' pt' bt' U' := by
    refine ⟨fun d hd => ?_, fq_Cl_F a2 (by omega) hB⟩
    by_cases e : d = y / 16
    · subst e; exact a1
    · refine fq_Cl_c (fun x hx => ?_) (fq_Cl_F a2 e (hA d hd))
      show U (16 * d + x) = U' (16 * d + x)
      rw [hU' _ (by omega), fq_wi_e (by omega)]
  by_cases e : y ≤ g
  · refine ⟨lo', hi', pt', bt', g, Or.inl ⟨rfl, e⟩, hW, fun post h => ?_⟩
    unfold wX_insert_90
    rw [fq_a15 (by omega)]
    refine a3 _ ?_
    exact br_t (nI_le e (by omega)) h
  · refine ⟨lo', hi', pt', bt', y, Or.inr ⟨rfl, by omega⟩, hW, fun post h => ?_⟩
    unfold wX_insert_90
    rw [fq_a15 (by omega)]
    refine a3 _ ?_
    exact br_f (nI_ge (by omega) (by omega)) h
theorem fq_ins70 (fl fc : Int32) {lo hi pt bt : Nat → Int32} {y g : Nat} {U U' : Nat → Bool} (hy : y < 256) (hU : U y = false) (hW : fq_W lo hi pt bt U) (hU' : ∀ z, z < 256 → U' z = fq_wi U y z) (hg : g < 256) :
    ∃ (lo' hi' pt' bt' : Nat → Int32) (g' : Nat), (g' = g ∧ y ≤ g ∨ g' = y ∧ g < y) ∧ fq_W lo' hi' pt' bt' U' ∧ ∀ post : Int32 → SX → Prop, post 1 (fl, nI g', fc, lo', hi', pt', bt') → wX_insert_70 post (nI y) fl (nI g) fc lo hi pt bt := by
  have hc : y / 16 < 16 := by omega
  have hUy : U' y = true := (hU' y hy).trans fq_wi_l
  have hoth : ∀ d, d < 16 → d ≠ y / 16 → fq_nz U d = fq_nz U' d := by
    intro d hd e
    refine fq_nz_c fun x hx => ?_
    rw [hU' _ (by omega), fq_wi_e (by omega)]
  rcases hW.1 _ hc with ⟨h1, h2, h3, h4⟩ | ⟨l, k, h1, h2, h3, h4, h5, h6, h7, h8⟩
  · obtain ⟨lo1, hi1, pt1, bt1, b1, b2, b3⟩ := fq_ins fl (nI g) fc (c := 16) (x := y / 16) (S := fq_nz U) (S' := fq_nz U') (by omega) hc (fq_nz_f h1) hW.2 (by
      intro d hd
      by_cases e : d = y / 16
      · subst e; rw [fq_wi_l]; exact fq_nz_t hUy
      · rw [fq_wi_e e]; exact (hoth d hd e).symm)
    obtain ⟨lo', hi', pt', bt', g', c1, c2, c3⟩ := fq_ins90 fl fc hy hU (fun d hd => fq_Cl_F b2 (by omega) (hW.1 d hd)) b1 hU' hg
    refine ⟨lo', hi', pt', bt', g', c1, c2, fun post h => ?_⟩
    unfold wX_insert_70
    rw [fq_sh4 (by omega)]
    refine nm_e ?_
    rw [nI_clamp (by omega), h2]
    exact ⟨vp_in_nI (by omega) (by decide), br_f fq_n0 (b3 _ (c3 post h))⟩
  · obtain ⟨lo', hi', pt', bt', g', c1, c2, c3⟩ := fq_ins90 fl fc hy hU hW.1 (fq_Cl_c (S' := fq_nz U') (fun d hd => by
      by_cases e : d = y / 16
      · subst e; rw [fq_nz_t hUy]; exact fq_nz_i h1 h3
      · exact hoth d hd e) hW.2) hU' hg
    refine ⟨lo', hi', pt', bt', g', c1, c2, fun post h => ?_⟩
    unfold wX_insert_70
    rw [fq_sh4 (by omega)]
    refine nm_e ?_
    rw [nI_clamp (by omega), h6]
    exact ⟨vp_in_nI (by omega) (by decide), br_t (nI_pos' (by omega)) (c3 post h)⟩
theorem fq_del96 (fl fg fc : Int32) {lo hi pt bt : Nat → Int32} {U : Nat → Bool} (hW : fq_W lo hi pt bt U) :
    ∃ r : Int32, ((∃ g : Nat, g < 256 ∧ U g = true ∧ (∀ z, z < 256 → U z = true → z ≤ g) ∧ r = nI g) ∨ ((∀ z, z < 256 → U z = false) ∧ r = fl)) ∧ ∀ post : Int32 → SX → Prop, post 1 (fl, r, fc, lo, hi, pt, bt) → wX_delete_96 post fl fg fc lo hi pt bt := by
  rcases fq_W_ends hW with ⟨h1, h2, h3⟩ | ⟨_, d, k, h1, h2, h3, h4, h5, h6⟩
  · refine ⟨fl, Or.inr ⟨h1, rfl⟩, fun post h => ?_⟩
    unfold wX_delete_96
    rw [h3]
    exact nm_e (br_f fq_n0 h)
  · refine ⟨nI (16 * d + k), Or.inl ⟨_, by omega, h5, h6, rfl⟩, fun post h => ?_⟩
    unfold wX_delete_96
    rw [h3]
    refine nm_e (br_t (nI_pos' (by omega)) ?_)
    rw [nI_clamp (by omega), h4, fq_x16]
    exact ⟨vp_in_nI (by omega) (by decide), nm_e h⟩
theorem fq_del63 (fl fg fc : Int32) {lo hi pt bt : Nat → Int32} {y : Nat} {U U' : Nat → Bool} (hy : y < 256) (hU : U y = true) (hW : fq_W lo hi pt bt U) (hU' : ∀ z, z < 256 → U' z = fq_wo U y z) :
    ∃ lo' hi' pt' bt' : Nat → Int32, fq_W lo' hi' pt' bt' U' ∧ ∀ post : Int32 → SX → Prop, wX_delete_96 post fl fg fc lo' hi' pt' bt' → wX_delete_63 post (nI y) fl fg fc lo hi pt bt := by
  have hc : y / 16 < 16 := by omega
  have hoth : ∀ d, d < 16 → d ≠ y / 16 → fq_nz U' d = fq_nz U d := by
    intro d hd e
    refine fq_nz_c fun x hx => ?_
    rw [hU' _ (by omega), fq_wo_e (by omega)]
  obtain ⟨lo1, hi1, pt1, bt1, a1, a2, a3⟩ := fq_del fl fg fc (c := y / 16) (x := y % 16) (S := fq_cl U (y / 16)) (S' := fq_cl U' (y / 16)) (by omega) (by omega) (by show U (16 * (y / 16) + y % 16) = true; rw [show 16 * (y / 16) + y % 16 = y by omega]; exact hU) (hW.1 _ hc) (fq_cl_wo hy hU')
  have hA : ∀ d, d < 16 → fq_Cl lo1 hi1 pt1 bt1 d (fq_cl U' d) := by
    intro d hd
    by_cases e : d = y / 16
    · subst e; exact a1
    · refine fq_Cl_c (fun x hx => ?_) (fq_Cl_F a2 e (hW.1 d hd))
      show U (16 * d + x) = U' (16 * d + x)
      rw [hU' _ (by omega), fq_wo_e (by omega)]
  have hB : fq_Cl lo1 hi1 pt1 bt1 16 (fq_nz U) := fq_Cl_F a2 (by omega) hW.2
  rcases a1 with ⟨h1, h2, h3, h4⟩ | ⟨l, k, h1, h2, h3, h4, h5, h6, h7, h8⟩
  · obtain ⟨lo2, hi2, pt2, bt2, b1, b2, b3⟩ := fq_del fl fg fc (c := 16) (x := y / 16) (S := fq_nz U) (S' := fq_nz U') (by omega) hc (fq_nz_t hU) hB (by
      intro d hd
      by_cases e : d = y / 16
      · subst e; rw [fq_wo_l]; exact fq_nz_f h1
      · rw [fq_wo_e e]; exact hoth d hd e)
    refine ⟨lo2, hi2, pt2, bt2, ⟨fun d hd => fq_Cl_F b2 (by omega) (hA d hd), b1⟩, fun post h => ?_⟩
    unfold wX_delete_63
    rw [fq_sh4 (by omega), fq_a15 (by omega)]
    refine br_f (nI_pos (by omega)) (nm_e (a3 _ ?_))
    dsimp only
    rw [nI_clamp (by omega), h2]
    exact ⟨vp_in_nI (by omega) (by decide), br_f fq_n0 (b3 _ h)⟩
  · refine ⟨lo1, hi1, pt1, bt1, ⟨hA, fq_Cl_c (fun d hd => ?_) hB⟩, fun post h => ?_⟩
    · by_cases e : d = y / 16
      · subst e; rw [fq_nz_t hU]; exact (fq_nz_i h1 h3).symm
      · exact (hoth d hd e).symm
    · unfold wX_delete_63
      rw [fq_sh4 (by omega), fq_a15 (by omega)]
      refine br_f (nI_pos (by omega)) (nm_e (a3 _ ?_))
      dsimp only
      rw [nI_clamp (by omega), h6]
      exact ⟨vp_in_nI (by omega) (by decide), br_t (nI_pos' (by omega)) h⟩
end
section
/-- how many members lie below k -/
def fq_n (T : Nat → Bool) : Nat → Nat
  | 0 => 0
  | k + 1 => fq_n T k + (T k).toNat
theorem fq_n_c {T T' : Nat → Bool} : ∀ {k : Nat}, (∀ j, j < k → T j = T' j) → fq_n T k = fq_n T' k
  | 0, _ => rfl
  | k + 1, h => by
    show fq_n T k + (T k).toNat = fq_n T' k + (T' k).toNat
    rw [fq_n_c (k := k) fun j hj => h j (by omega), h k (by omega)]
theorem fq_n_t {T : Nat → Bool} {k : Nat} (h : T k = true) : fq_n T (k + 1) = fq_n T k + 1 := by
  show fq_n T k + (T k).toNat = _
  rw [h]; rfl
theorem fq_n_f {T : Nat → Bool} {k : Nat} (h : T k = false) : fq_n T (k + 1) = fq_n T k := by
  show fq_n T k + (T k).toNat = _
  rw [h]; rfl
theorem fq_n_le {T : Nat → Bool} : ∀ k : Nat, fq_n T k ≤ k
  | 0 => Nat.le_refl 0
  | k + 1 => by
    have a := fq_n_le (T := T) k
    cases h : T k
    · rw [fq_n_f h]; omega
    · rw [fq_n_t h]; omega
theorem fq_n_gap {T : Nat → Bool} {j : Nat} : ∀ {k : Nat}, j ≤ k → (∀ z, j ≤ z → z < k → T z = false) → fq_n T k = fq_n T j := by
  intro k
  induction k with
  | zero => intro h _; rw [show j = 0 by omega]
  | succ k ih =>
    intro h g
    by_cases e : j = k + 1
    · rw [e]
    · rw [fq_n_f (g k (by omega) (by omega))]
      exact ih (by omega) fun z a b => g z a (by omega)
theorem fq_n_mono {T : Nat → Bool} {j : Nat} : ∀ {k : Nat}, j ≤ k → fq_n T j ≤ fq_n T k := by
  intro k
  induction k with
  | zero => intro h; rw [show j = 0 by omega]; exact Nat.le_refl _
  | succ k ih =>
    intro h
    by_cases e : j = k + 1
    · rw [e]; exact Nat.le_refl _
    · have a := ih (by omega)
      cases q : T k
      · rw [fq_n_f q]; exact a
      · rw [fq_n_t q]; omega
theorem fq_n_wi {T : Nat → Bool} {x : Nat} (hT : T x = false) : ∀ {k : Nat}, x < k → fq_n (fq_wi T x) k = fq_n T k + 1 := by
  intro k
  induction k with
  | zero => intro h; omega
  | succ k ih =>
    intro h
    by_cases e : x = k
    · subst e
      rw [fq_n_t fq_wi_l, fq_n_f hT, fq_n_c (T' := T) fun j hj => fq_wi_e (by omega)]
    · show fq_n (fq_wi T x) k + (fq_wi T x k).toNat = fq_n T k + (T k).toNat + 1
      rw [ih (by omega), fq_wi_e (Ne.symm e)]
      omega
theorem fq_n_wo {T : Nat → Bool} {x : Nat} (hT : T x = true) : ∀ {k : Nat}, x < k → fq_n T k = fq_n (fq_wo T x) k + 1 := by
  intro k
  induction k with
  | zero => intro h; omega
  | succ k ih =>
    intro h
    by_cases e : x = k
    · subst e
      rw [fq_n_t hT, fq_n_f fq_wo_l, fq_n_c (T := fq_wo T x) (T' := T) fun j hj => fq_wo_e (by omega)]
    · show fq_n T k + (T k).toNat = fq_n (fq_wo T x) k + (fq_wo T x k).toNat + 1
      rw [ih (by omega), fq_wo_e (Ne.symm e)]
      omega
theorem fq_n_0 {T : Nat → Bool} {k : Nat} (h : ∀ j, j < k → T j = false) : fq_n T k = 0 :=
  fq_n_gap (j := 0) (Nat.zero_le k) fun z _ hz => h z hz
/-- the fields and clusters hold T -/
def fq_Q (fl fg : Int32) (lo hi pt bt : Nat → Int32) (T : Nat → Bool) : Prop :=
  ((∀ x, x < 256 → T x = false) ∧ fl = -1 ∧ fg = -1 ∧ fq_W lo hi pt bt (fun _ => false)) ∨
  (∃ m g : Nat, m < 256 ∧ g < 256 ∧ T m = true ∧ T g = true ∧ (∀ x, x < 256 → T x = true → m ≤ x ∧ x ≤ g) ∧ fl = nI m ∧ fg = nI g ∧ fq_W lo hi pt bt (fq_wo T m))
/-- a state of X holds T -/
def fq_R (u : SX) (T : Nat → Bool) : Prop :=
  ∃ (fl fg fc : Int32) (lo hi pt bt : Nat → Int32), u = (fl, fg, fc, lo, hi, pt, bt) ∧ fc = nI (fq_n T 256) ∧ fq_Q fl fg lo hi pt bt T
theorem fq_Q_c {fl fg : Int32} {lo hi pt bt : Nat → Int32} {T T' : Nat → Bool} (h : ∀ z, z < 256 → T z = T' z) (hQ : fq_Q fl fg lo hi pt bt T) : fq_Q fl fg lo hi pt bt T' := by
  rcases hQ with ⟨h1, h2, h3, h4⟩ | ⟨m, g, h1, h2, h3, h4, h5, h6, h7, h8⟩
  · exact Or.inl ⟨fun x hx => (h x hx).symm.trans (h1 x hx), h2, h3, h4⟩
  · refine Or.inr ⟨m, g, h1, h2, (h m h1).symm.trans h3, (h g h2).symm.trans h4, fun x hx e => h5 x hx ((h x hx).trans e), h6, h7, fq_W_c (fun x hx => ?_) h8⟩
    unfold fq_wo; rw [h x hx]
theorem fq_R_c {u : SX} {T T' : Nat → Bool} (h : ∀ z, z < 256 → T z = T' z) (hR : fq_R u T) : fq_R u T' := by
  obtain ⟨fl, fg, fc, lo, hi, pt, bt, rfl, hc, hQ⟩ := hR
  exact ⟨fl, fg, fc, lo, hi, pt, bt, rfl, by rw [hc, fq_n_c h], fq_Q_c h hQ⟩
theorem fq_z01 {A B : Prop} {b : Bool} (f : b = false → A) (g : b = true → B) : (fq_01 b = 0 → A) ∧ (¬ fq_01 b = 0 → B) := by
  cases b
  · exact br_t rfl (f rfl)
  · exact br_f (by decide) (g rfl)
theorem fq_256 {p : Int32} (h : nI 256 ≤ p) : 256 ≤ p := h
theorem fq_p0 {p : Int32} (h : nI 256 ≤ p) : ¬ p < 0 := by
  rw [Int32.le_iff_toInt_le, nI_toInt (by decide)] at h
  rw [Int32.lt_iff_toInt_lt, Int32.toInt_zero]
  omega
theorem fq_mem_out {u : SX} {p : Int32} (h : p < 0 ∨ nI 256 ≤ p) : ∀ post : Int32 → Prop, post 0 → wpX_member post u p := by
  intro post hp
  obtain ⟨fl, fg, fc, lo, hi, pt, bt⟩ := u
  unfold wpX_member
  dsimp only
  rcases h with h | h
  · exact br_t h hp
  · exact br_f (fq_p0 h) (br_t (fq_256 h) hp)
theorem fq_memQ {fl fg fc : Int32} {lo hi pt bt : Nat → Int32} {T : Nat → Bool} {x : Nat} (hQ : fq_Q fl fg lo hi pt bt T) (hx : x < 256) : ∀ post : Int32 → Prop, post (fq_01 (T x)) → wpX_member post (fl, fg, fc, lo, hi, pt, bt) (nI x) := by
  intro post h
  unfold wpX_member
  dsimp only
  rw [fq_sh4 (by omega), fq_a15 (by omega)]
  refine br_f (nI_pos (by omega)) (br_f (nI_ge (b := 256) hx (by decide)) ?_)
  have e16 : 16 * (x / 16) + x % 16 = x := by omega
  rcases hQ with ⟨h1, h2, h3, h4⟩ | ⟨m, g, h1, h2, h3, h4, h5, h6, h7, h8⟩
  · rw [h2]
    refine br_f (fun z => fq_neI (x := x) (by omega) z.symm) (fq_inC _ _ _ (by omega) (by omega) (h4.1 (x / 16) (by omega)) _ ?_)
    rw [h1 x hx] at h
    exact br_t rfl h
  · rw [h6]
    refine pk_eq x m (fun e => ?_) (fun e => fq_inC _ _ _ (by omega) (by omega) (h8.1 (x / 16) (by omega)) _ ?_)
    · subst e
      rw [h3] at h
      exact h
    · have q : fq_cl (fq_wo T m) (x / 16) (x % 16) = T x := by
        show fq_wo T m (16 * (x / 16) + x % 16) = T x
        rw [e16, fq_wo_e e]
      rw [q]
      refine fq_z01 (fun z => ?_) (fun z => ?_)
      · rw [z] at h; exact h
      · rw [z] at h; exact h
theorem fq_mem {u : SX} {T : Nat → Bool} {x : Nat} (hR : fq_R u T) (hx : x < 256) : ∀ post : Int32 → Prop, post (fq_01 (T x)) → wpX_member post u (nI x) := by
  obtain ⟨fl, fg, fc, lo, hi, pt, bt, rfl, hc, hQ⟩ := hR
  exact fq_memQ hQ hx
theorem fq_insert_out {u : SX} {p : Int32} (h : p < 0 ∨ nI 256 ≤ p) : ∀ post : Int32 → SX → Prop, post 0 u → wpX_insert post u p := by
  intro post hp
  obtain ⟨fl, fg, fc, lo, hi, pt, bt⟩ := u
  unfold wpX_insert
  dsimp only
  rcases h with h | h
  · exact br_t h hp
  · exact br_f (fq_p0 h) (br_t (fq_256 h) hp)
theorem fq_insert_in {u : SX} {T : Nat → Bool} {x : Nat} (hR : fq_R u T) (hx : x < 256) (hT : T x = true) : ∀ post : Int32 → SX → Prop, post 0 u → wpX_insert post u (nI x) := by
  obtain ⟨fl, fg, fc, lo, hi, pt, bt, rfl, hc, hQ⟩ := hR
  intro post h
  unfold wpX_insert
  dsimp only
  refine br_f (nI_pos (by omega)) (br_f (nI_ge (b := 256) hx (by decide)) (fq_memQ hQ hx _ ?_))
  rw [hT]
  exact br_f (by decide) h
theorem fq_insert_new {u : SX} {T : Nat → Bool} {x : Nat} (hR : fq_R u T) (hx : x < 256) (hT : T x = false) : ∃ u' : SX, fq_R u' (fq_wi T x) ∧ ∀ post : Int32 → SX → Prop, post 1 u' → wpX_insert post u (nI x) := by
  obtain ⟨fl, fg, fc, lo, hi, pt, bt, rfl, hc, hQ⟩ := hR
  have hc' : fc + 1 = nI (fq_n (fq_wi T x) 256) := by rw [hc, nI_1, fq_n_wi hT hx]
  have hM := fq_memQ (fc := fc) hQ hx
  rw [hT] at hM
  rcases hQ with ⟨h1, h2, h3, h4⟩ | ⟨m, g, h1, h2, h3, h4, h5, h6, h7, h8⟩
  · have hn : ∀ y, y < 256 → fq_wi T x y = true → y = x := by
      intro y hy e
      rcases fq_wi_c e with e | e
      · exact (fq_tf e (h1 y hy)).elim
      · exact e
    refine ⟨(nI x, nI x, fc + 1, lo, hi, pt, bt), ⟨_, _, _, _, _, _, _, rfl, hc', Or.inr ⟨x, x, hx, hx, fq_wi_l, fq_wi_l, fun y hy e => ?_, rfl, rfl, fq_W_c (fun z hz => ?_) h4⟩⟩, fun post h => ?_⟩
    · have := hn y hy e; omega
    · refine (fq_nt fun e => ?_).symm
      exact fq_wo_n e (hn z hz (fq_wo_S e))
    · unfold wpX_insert
      dsimp only
      refine br_f (nI_pos (by omega)) (br_f (nI_ge (b := 256) hx (by decide)) (hM _ (br_t rfl (nm_e ?_))))
      rw [h2]
      exact br_f fq_n0 h
  · subst h6 h7
    have hne : x ≠ m := fun e => fq_tf h3 (e ▸ hT)
    have hup : ∀ y, y < 256 → fq_wi T x y = true → y = x ∨ (m ≤ y ∧ y ≤ g) := by
      intro y hy e
      rcases fq_wi_c e with e | e
      · exact Or.inr (h5 y hy e)
      · exact Or.inl e
    by_cases e : m ≤ x
    · obtain ⟨lo', hi', pt', bt', g', a1, a2, a3⟩ := fq_ins70 (nI m) (fc + 1) (y := x) (g := g) (U := fq_wo T m) (U' := fq_wo (fq_wi T x) m) hx (by rw [fq_wo_e hne]; exact hT) h8 (by
        intro z hz
        by_cases ez : z = x
        · subst ez
          rw [fq_wi_l]
          exact fq_wo_t fq_wi_l hne
        · rw [fq_wi_e ez]
          unfold fq_wo
          rw [fq_wi_e ez]) h2
      refine ⟨(nI m, nI g', fc + 1, lo', hi', pt', bt'), ⟨_, _, _, _, _, _, _, rfl, hc', Or.inr ⟨m, g', h1, by omega, fq_wi_t h3, ?_, fun y hy ey => ?_, rfl, rfl, a2⟩⟩, fun post h => ?_⟩
      · rcases a1 with ⟨rfl, _⟩ | ⟨rfl, _⟩
        · exact fq_wi_t h4
        · exact fq_wi_l
      · have := hup y hy ey
        omega
      · unfold wpX_insert
        dsimp only
        exact br_f (nI_pos (by omega)) (br_f (nI_ge (b := 256) hx (by decide)) (hM _ (br_t rfl (nm_e (br_t (nI_pos' (by omega)) (br_t (nI_le e (by omega)) (a3 post h)))))))
    · have hmg := (h5 m h1 h3).2
      obtain ⟨lo', hi', pt', bt', g', a1, a2, a3⟩ := fq_ins70 (nI x) (fc + 1) (y := m) (g := g) (U := fq_wo T m) (U' := fq_wo (fq_wi T x) x) h1 fq_wo_l h8 (by
        intro z hz
        by_cases ez : z = m
        · subst ez
          rw [fq_wi_l]
          exact fq_wo_t (fq_wi_t h3) (Ne.symm hne)
        · rw [fq_wi_e ez, fq_wo_e ez]
          by_cases ex : z = x
          · subst ex
            rw [fq_wo_l, hT]
          · rw [fq_wo_e ex, fq_wi_e ex]) h2
      refine ⟨(nI x, nI g', fc + 1, lo', hi', pt', bt'), ⟨_, _, _, _, _, _, _, rfl, hc', Or.inr ⟨x, g', hx, by omega, fq_wi_l, ?_, fun y hy ey => ?_, rfl, rfl, a2⟩⟩, fun post h => ?_⟩
      · rcases a1 with ⟨rfl, _⟩ | ⟨rfl, _⟩
        · exact fq_wi_t h4
        · exact fq_wi_t h3
      · have := hup y hy ey
        omega
      · unfold wpX_insert
        dsimp only
        exact br_f (nI_pos (by omega)) (br_f (nI_ge (b := 256) hx (by decide)) (hM _ (br_t rfl (nm_e (br_t (nI_pos' (by omega)) (br_f (nI_ge (by omega) (by omega)) (a3 post h)))))))
theorem fq_delete_out {u : SX} {p : Int32} (h : p < 0 ∨ nI 256 ≤ p) : ∀ post : Int32 → SX → Prop, post 0 u → wpX_delete post u p := by
  intro post hp
  obtain ⟨fl, fg, fc, lo, hi, pt, bt⟩ := u
  unfold wpX_delete
  dsimp only
  exact fq_mem_out h _ (br_t rfl hp)
theorem fq_delete_no {u : SX} {T : Nat → Bool} {x : Nat} (hR : fq_R u T) (hx : x < 256) (hT : T x = false) : ∀ post : Int32 → SX → Prop, post 0 u → wpX_delete post u (nI x) := by
  obtain ⟨fl, fg, fc, lo, hi, pt, bt, rfl, hc, hQ⟩ := hR
  intro post h
  unfold wpX_delete
  dsimp only
  refine fq_memQ hQ hx _ ?_
  rw [hT]
  exact br_t rfl h
theorem fq_delete_yes {u : SX} {T : Nat → Bool} {x : Nat} (hR : fq_R u T) (hx : x < 256) (hT : T x = true) : ∃ u' : SX, fq_R u' (fq_wo T x) ∧ ∀ post : Int32 → SX → Prop, post 1 u' → wpX_delete post u (nI x) := by
  obtain ⟨fl, fg, fc, lo, hi, pt, bt, rfl, hc, hQ⟩ := hR
  have hc' : fc - 1 = nI (fq_n (fq_wo T x) 256) := by rw [hc, fq_n_wo hT hx, nI_pred]
  have hM := fq_memQ (fc := fc) hQ hx
  rw [hT] at hM
  rcases hQ with ⟨h1, h2, h3, h4⟩ | ⟨m, g, h1, h2, h3, h4, h5, h6, h7, h8⟩
  · exact (fq_tf hT (h1 x hx)).elim
  · subst h6 h7
    by_cases e : x = m
    · subst e
      rcases fq_W_ends h8 with ⟨a1, a2, a3⟩ | ⟨⟨c, l, a1, a2, a3, a4, a5, a6⟩, _⟩
      · refine ⟨(-1, -1, fc - 1, lo, hi, pt, bt), ⟨_, _, _, _, _, _, _, rfl, hc', Or.inl ⟨a1, rfl, rfl, fq_W_c a1 h8⟩⟩, fun post h => ?_⟩
        unfold wpX_delete
        dsimp only
        refine hM _ (br_f (by decide) (nm_e (br_t rfl (nm_r a2 (br_f fq_n0 ?_)))))
        unfold wX_delete_57 wX_delete_63 wX_delete_96
        exact br_t fq_neg (nm_r a3 (br_f fq_n0 h))
      · obtain ⟨lo', hi', pt', bt', b1, b2⟩ := fq_del63 (nI (16 * c + l)) (nI g) (fc - 1) (y := 16 * c + l) (U := fq_wo T x) (U' := fq_wo (fq_wo T x) (16 * c + l)) (by omega) a5 h8 (fun _ _ => rfl)
        obtain ⟨r, c1, c2⟩ := fq_del96 (nI (16 * c + l)) (nI g) (fc - 1) b1
        refine ⟨(nI (16 * c + l), r, fc - 1, lo', hi', pt', bt'), ⟨_, _, _, _, _, _, _, rfl, hc', Or.inr ?_⟩, fun post h => ?_⟩
        · rcases c1 with ⟨g', d1, d2, d3, rfl⟩ | ⟨d1, rfl⟩
          · refine ⟨16 * c + l, g', by omega, d1, a5, fq_wo_S d2, fun z hz ez => ⟨a6 z hz ez, ?_⟩, rfl, rfl, b1⟩
            by_cases q : z = 16 * c + l
            · have := a6 g' d1 (fq_wo_S d2); omega
            · exact d3 z hz (fq_wo_t ez q)
          · refine ⟨16 * c + l, 16 * c + l, by omega, by omega, a5, a5, fun z hz ez => ⟨a6 z hz ez, ?_⟩, rfl, rfl, b1⟩
            by_cases q : z = 16 * c + l
            · omega
            · exact (fq_tf (fq_wo_t ez q) (d1 z hz)).elim
        · unfold wpX_delete
          dsimp only
          refine hM _ (br_f (by decide) (nm_e (br_t rfl (nm_r a3 (br_t (nI_pos' (by omega)) ⟨vp_in_nI (by omega) (by decide), ?_⟩)))))
          rw [nI_clamp (by omega), a4, fq_x16]
          unfold wX_delete_57
          exact b2 post (c2 post h)
    · have hU : fq_wo T m x = true := fq_wo_t hT e
      obtain ⟨lo', hi', pt', bt', b1, b2⟩ := fq_del63 (nI m) (nI g) (fc - 1) (y := x) (U := fq_wo T m) (U' := fq_wo (fq_wo T x) m) hx hU h8 (by
        intro z hz
        show ((T z && !(x == z)) && !(m == z)) = ((T z && !(m == z)) && !(x == z))
        rw [Bool.and_assoc, Bool.and_assoc, Bool.and_comm (!(x == z))])
      obtain ⟨r, c1, c2⟩ := fq_del96 (nI m) (nI g) (fc - 1) b1
      have hm : fq_wo T x m = true := fq_wo_t h3 (Ne.symm e)
      refine ⟨(nI m, r, fc - 1, lo', hi', pt', bt'), ⟨_, _, _, _, _, _, _, rfl, hc', Or.inr ?_⟩, fun post h => ?_⟩
      · rcases c1 with ⟨g', d1, d2, d3, rfl⟩ | ⟨d1, rfl⟩
        · refine ⟨m, g', h1, d1, hm, fq_wo_S d2, fun z hz ez => ⟨(h5 z hz (fq_wo_S ez)).1, ?_⟩, rfl, rfl, b1⟩
          by_cases q : z = m
          · have := (h5 g' d1 (fq_wo_S (fq_wo_S d2))).1; omega
          · exact d3 z hz (fq_wo_t ez q)
        · refine ⟨m, m, h1, h1, hm, hm, fun z hz ez => ⟨(h5 z hz (fq_wo_S ez)).1, ?_⟩, rfl, rfl, b1⟩
          by_cases q : z = m
          · omega
          · exact (fq_tf (fq_wo_t ez q) (d1 z hz)).elim
      · unfold wpX_delete
        dsimp only
        refine hM _ (br_f (by decide) (nm_e (br_f (fun q => e ((nI_eq (by omega) (by omega)).mp q)) ?_)))
        exact b2 post (c2 post h)
end
section
theorem fq_after {u : SX} {T : Nat → Bool} (hR : fq_R u T) (p : Int32) : ∃ r : Int32, fq_Aft 256 T p.toInt r ∧ ∀ post : Int32 → Prop, post r → wpX_after post u p := by
  obtain ⟨fl, fg, fc, lo, hi, pt, bt, rfl, hc, hQ⟩ := hR
  rcases hQ with ⟨h1, h2, h3, h4⟩ | ⟨m, g, h1, h2, h3, h4, h5, h6, h7, h8⟩
  · refine ⟨-1, Or.inr ⟨fun z hz e => (fq_tf e (h1 z hz)).elim, rfl⟩, fun post h => ?_⟩
    unfold wpX_after
    dsimp only
    rw [h2]
    exact br_t fq_neg h
  subst h6 h7
  have hn0 : ¬ nI m < 0 := nI_pos (by omega)
  by_cases hg : p < nI g
  rotate_left
  · refine ⟨-1, Or.inr ⟨fun z hz e q => ?_, rfl⟩, fun post h => ?_⟩
    · have := (h5 z hz e).2
      rw [Int32.lt_iff_toInt_lt, nI_toInt (by omega)] at hg
      omega
    · unfold wpX_after
      dsimp only
      exact br_f hn0 (br_f hg h)
  by_cases hm : nI m ≤ p
  rotate_left
  · refine ⟨nI m, Or.inl ⟨m, h1, h3, ?_, fun z hz e q => (h5 z hz e).1, rfl⟩, fun post h => ?_⟩
    · rw [Int32.le_iff_toInt_le, nI_toInt (by omega)] at hm
      omega
    · unfold wpX_after
      dsimp only
      exact br_f hn0 (br_t hg (br_f hm h))
  obtain ⟨x, hx, rfl⟩ : ∃ x : Nat, x < 2 ^ 31 ∧ p = nI x := nI_of (by
    rw [Int32.le_iff_toInt_le, nI_toInt (by omega)] at hm
    rw [Int32.lt_iff_toInt_lt, Int32.toInt_zero]
    omega)
  rw [nI_toInt hx]
  have hgx : x < g := (nI_ltI (by omega) (by omega)).mp hg
  have hmx : m ≤ x := (nI_leI (by omega) (by omega)).mp hm
  have hTU : ∀ z, z < 256 → T z = true → (x : Int) < z → fq_wo T m z = true := fun z hz e h => fq_wo_t e (by omega)
  obtain ⟨r1, a1, a2⟩ := fq_afterIn (nI m) (nI g) fc (c := x / 16) (x := x % 16) (by omega) (by omega) (h8.1 (x / 16) (by omega))
  rcases a1 with ⟨y, b1, b2, b3, b4, rfl⟩ | ⟨b1, rfl⟩
  · refine ⟨nI (16 * (x / 16) + y), Or.inl ⟨_, by omega, fq_wo_S b2, by omega, fun z hz e q => ?_, rfl⟩, fun post h => ?_⟩
    · by_cases ez : z / 16 = x / 16
      · have t := b4 (z % 16) (by omega) (by
          show fq_wo T m (16 * (x / 16) + z % 16) = true
          rw [show 16 * (x / 16) + z % 16 = z by omega]
          exact hTU z hz e q) (by omega)
        omega
      · omega
    · unfold wpX_after
      dsimp only
      rw [fq_sh4 (by omega), fq_a15 (by omega)]
      refine br_f hn0 (br_t hg (br_t hm (nm_e (a2 _ (br_f (nI_pos (by omega)) ?_)))))
      rw [fq_x16]
      exact h
  · have hlater : ∀ z, z < 256 → T z = true → (x : Int) < z → x / 16 < z / 16 := by
      intro z hz e q
      refine Nat.lt_of_not_le fun w => ?_
      have ez : z / 16 = x / 16 := by omega
      exact b1 (z % 16) (by omega) (by
        show fq_wo T m (16 * (x / 16) + z % 16) = true
        rw [show 16 * (x / 16) + z % 16 = z by omega]
        exact hTU z hz e q) (by omega)
    obtain ⟨r2, c1, c2⟩ := fq_afterIn (nI m) (nI g) fc (c := 16) (x := x / 16) (by omega) (by omega) h8.2
    rcases c1 with ⟨d, d1, d2, d3, d4, rfl⟩ | ⟨d1, rfl⟩
    · rcases h8.1 d d1 with ⟨k1, _⟩ | ⟨l, k, k1, k2, k3, k4, k5, k6, k7, k8⟩
      · obtain ⟨w, hw, ew⟩ := fq_nz_e d2
        exact (fq_tf ew (k1 w hw)).elim
      · refine ⟨nI (16 * d + l), Or.inl ⟨_, by omega, fq_wo_S k3, by omega, fun z hz e q => ?_, rfl⟩, fun post h => ?_⟩
        · have t := hTU z hz e q
          have f := d4 (z / 16) (by omega) (fq_nz_t t) (by have := hlater z hz e q; omega)
          by_cases ez : z / 16 = d
          · have s := (k5 (z % 16) (by omega) (by
              show fq_wo T m (16 * d + z % 16) = true
              rw [show 16 * d + z % 16 = z by omega]
              exact t)).1
            omega
          · omega
        · unfold wpX_after
          dsimp only
          rw [fq_sh4 (by omega), fq_a15 (by omega)]
          refine br_f hn0 (br_t hg (br_t hm (nm_e (a2 _ (br_t fq_neg (c2 _ ⟨vp_in_nI (by omega) (by decide), ?_⟩))))))
          rw [nI_clamp (by omega), k6, fq_x16]
          exact h
    · exact absurd (show ((x / 16 : Nat) : Int) < (g / 16 : Nat) by have := hlater g h2 h4 (by omega); omega) (d1 (g / 16) (by omega) (fq_nz_t (hTU g h2 h4 (by omega))))
theorem fq_before {u : SX} {T : Nat → Bool} (hR : fq_R u T) (p : Int32) : ∃ r : Int32, fq_Bef 256 T p.toInt r ∧ ∀ post : Int32 → Prop, post r → wpX_before post u p := by
  obtain ⟨fl, fg, fc, lo, hi, pt, bt, rfl, hc, hQ⟩ := hR
  rcases hQ with ⟨h1, h2, h3, h4⟩ | ⟨m, g, h1, h2, h3, h4, h5, h6, h7, h8⟩
  · refine ⟨-1, Or.inr ⟨fun z hz e => (fq_tf e (h1 z hz)).elim, rfl⟩, fun post h => ?_⟩
    unfold wpX_before
    dsimp only
    rw [h2]
    exact br_t fq_neg h
  subst h6 h7
  have hn0 : ¬ nI m < 0 := nI_pos (by omega)
  by_cases hm : nI m < p
  rotate_left
  · refine ⟨-1, Or.inr ⟨fun z hz e q => ?_, rfl⟩, fun post h => ?_⟩
    · have := (h5 z hz e).1
      rw [Int32.lt_iff_toInt_lt, nI_toInt (by omega)] at hm
      omega
    · unfold wpX_before
      dsimp only
      exact br_f hn0 (br_f hm h)
  by_cases hg : p ≤ nI g
  rotate_left
  · refine ⟨nI g, Or.inl ⟨g, h2, h4, ?_, fun z hz e q => (h5 z hz e).2, rfl⟩, fun post h => ?_⟩
    · rw [Int32.le_iff_toInt_le, nI_toInt (by omega)] at hg
      omega
    · unfold wpX_before
      dsimp only
      exact br_f hn0 (br_t hm (br_f hg h))
  obtain ⟨x, hx, rfl⟩ : ∃ x : Nat, x < 2 ^ 31 ∧ p = nI x := nI_of (by
    rw [Int32.lt_iff_toInt_lt, nI_toInt (by omega)] at hm
    rw [Int32.lt_iff_toInt_lt, Int32.toInt_zero]
    omega)
  rw [nI_toInt hx]
  have hgx : x ≤ g := (nI_leI (by omega) (by omega)).mp hg
  have hmx : m < x := (nI_ltI (by omega) (by omega)).mp hm
  obtain ⟨r1, a1, a2⟩ := fq_beforeIn (nI m) (nI g) fc (c := x / 16) (x := x % 16) (by omega) (by omega) (h8.1 (x / 16) (by omega))
  rcases a1 with ⟨y, b1, b2, b3, b4, rfl⟩ | ⟨b1, rfl⟩
  · have hmy := (h5 _ (by omega) (fq_wo_S b2)).1
    refine ⟨nI (16 * (x / 16) + y), Or.inl ⟨_, by omega, fq_wo_S b2, by omega, fun z hz e q => ?_, rfl⟩, fun post h => ?_⟩
    · by_cases em : z = m
      · omega
      · by_cases ez : z / 16 = x / 16
        · have t := b4 (z % 16) (by omega) (by
            show fq_wo T m (16 * (x / 16) + z % 16) = true
            rw [show 16 * (x / 16) + z % 16 = z by omega]
            exact fq_wo_t e em) (by omega)
          omega
        · omega
    · unfold wpX_before
      dsimp only
      rw [fq_sh4 (by omega), fq_a15 (by omega)]
      refine br_f hn0 (br_t hm (br_t hg (nm_e (a2 _ (br_f (nI_pos (by omega)) ?_)))))
      rw [fq_x16]
      exact h
  · have hearlier : ∀ z, z < 256 → fq_wo T m z = true → (z : Int) < x → z / 16 < x / 16 := by
      intro z hz e q
      refine Nat.lt_of_not_le fun w => ?_
      have ez : z / 16 = x / 16 := by omega
      exact b1 (z % 16) (by omega) (by
        show fq_wo T m (16 * (x / 16) + z % 16) = true
        rw [show 16 * (x / 16) + z % 16 = z by omega]
        exact e) (by omega)
    obtain ⟨r2, c1, c2⟩ := fq_beforeIn (nI m) (nI g) fc (c := 16) (x := x / 16) (by omega) (by omega) h8.2
    rcases c1 with ⟨d, d1, d2, d3, d4, rfl⟩ | ⟨d1, rfl⟩
    · rcases h8.1 d d1 with ⟨k1, _⟩ | ⟨l, k, k1, k2, k3, k4, k5, k6, k7, k8⟩
      · obtain ⟨w, hw, ew⟩ := fq_nz_e d2
        exact (fq_tf ew (k1 w hw)).elim
      · have hmy := (h5 _ (by omega) (fq_wo_S k4)).1
        refine ⟨nI (16 * d + k), Or.inl ⟨_, by omega, fq_wo_S k4, by omega, fun z hz e q => ?_, rfl⟩, fun post h => ?_⟩
        · by_cases em : z = m
          · omega
          · have t := fq_wo_t e em
            have f := d4 (z / 16) (by omega) (fq_nz_t t) (by have := hearlier z hz t q; omega)
            by_cases ez : z / 16 = d
            · have s := (k5 (z % 16) (by omega) (by
                show fq_wo T m (16 * d + z % 16) = true
                rw [show 16 * d + z % 16 = z by omega]
                exact t)).2
              omega
            · omega
        · unfold wpX_before
          dsimp only
          rw [fq_sh4 (by omega), fq_a15 (by omega)]
          refine br_f hn0 (br_t hm (br_t hg (nm_e (a2 _ (br_t fq_neg (c2 _ (br_t (nI_pos' (by omega)) ⟨vp_in_nI (by omega) (by decide), ?_⟩)))))))
          rw [nI_clamp (by omega), k7, fq_x16]
          exact h
    · refine ⟨nI m, Or.inl ⟨m, h1, h3, by omega, fun z hz e q => ?_, rfl⟩, fun post h => ?_⟩
      · refine Nat.le_of_not_lt fun w => ?_
        have t := fq_wo_t e (show z ≠ m by omega)
        exact d1 (z / 16) (by omega) (fq_nz_t t) (by have := hearlier z hz t q; omega)
      · unfold wpX_before
        dsimp only
        rw [fq_sh4 (by omega), fq_a15 (by omega)]
        exact br_f hn0 (br_t hm (br_t hg (nm_e (a2 _ (br_t fq_neg (c2 _ (br_f fq_n0 h)))))))
end
section
/-- the set that the reference's array holds -/
def fq_T (a : Nat → Int32) (j : Nat) : Bool := decide (¬ a j = 0)
theorem fq_T_f {a : Nat → Int32} {j : Nat} (h : a j = 0) : fq_T a j = false := decide_eq_false (fun q => q h)
theorem fq_T_t {a : Nat → Int32} {j : Nat} (h : ¬ a j = 0) : fq_T a j = true := decide_eq_true h
theorem fq_T_z {a : Nat → Int32} {j : Nat} (h : fq_T a j = false) : a j = 0 := Decidable.of_not_not (of_decide_eq_false h)
theorem fq_T_n {a : Nat → Int32} {j : Nat} (h : fq_T a j = true) : ¬ a j = 0 := of_decide_eq_true h
theorem fq_T_u1 {a : Nat → Int32} {x j : Nat} : fq_T (upd a x 1) j = fq_wi (fq_T a) x j := by
  by_cases e : j = x
  · subst e
    rw [fq_wi_l]
    exact fq_T_t (by rw [pk_us]; decide)
  · rw [fq_wi_e e]
    unfold fq_T
    rw [pk_un e]
theorem fq_T_u0 {a : Nat → Int32} {x j : Nat} : fq_T (upd a x 0) j = fq_wo (fq_T a) x j := by
  by_cases e : j = x
  · subst e
    rw [fq_wo_l]
    exact fq_T_f pk_us
  · rw [fq_wo_e e]
    unfold fq_T
    rw [pk_un e]
theorem fq_num {a : SY} {x : Nat} (hx : x < 256) {post : Int32 → Prop} (h : post 1) : wpY_number post a (nI x) := by
  unfold wpY_number
  exact br_f (nI_pos (by omega)) (br_f (nI_nlt (a := 255) (by omega) (by decide)) h)
theorem fq_num_out {a : SY} {p : Int32} (hp : p < 0 ∨ nI 256 ≤ p) {post : Int32 → Prop} (h : post 0) : wpY_number post a p := by
  unfold wpY_number
  rcases hp with hp | hp
  · exact br_t hp h
  · refine br_f (fq_p0 hp) (br_t ?_ h)
    rw [Int32.le_iff_toInt_le, nI_toInt (by decide)] at hp
    rw [Int32.lt_iff_toInt_lt, show (255 : Int32).toInt = 255 by decide]
    omega
theorem fq_ymem {a : SY} {x : Nat} (hx : x < 256) : ∀ post : Int32 → Prop, post (fq_01 (fq_T a x)) → wpY_member post a (nI x) := by
  intro post h
  unfold wpY_member
  refine fq_num hx (br_f (by decide) ⟨vp_in_nI hx (by decide), ?_⟩)
  rw [nI_clamp (by omega)]
  refine br_c (fun z => ?_) (fun z => ?_)
  · rw [fq_T_f z] at h; exact h
  · rw [fq_T_t z] at h; exact h
theorem fq_ymem_out {a : SY} {p : Int32} (hp : p < 0 ∨ nI 256 ≤ p) : ∀ post : Int32 → Prop, post 0 → wpY_member post a p := by
  intro post h
  unfold wpY_member
  exact fq_num_out hp (br_t rfl h)
theorem fq_yins_out {a : SY} {p : Int32} (hp : p < 0 ∨ nI 256 ≤ p) : ∀ post : Int32 → SY → Prop, post 0 a → wpY_insert post a p := by
  intro post h
  unfold wpY_insert
  exact fq_num_out hp (br_t rfl h)
theorem fq_yins_in {a : SY} {x : Nat} (hx : x < 256) (hT : fq_T a x = true) : ∀ post : Int32 → SY → Prop, post 0 a → wpY_insert post a (nI x) := by
  intro post h
  unfold wpY_insert
  refine fq_num hx (br_f (by decide) ⟨vp_in_nI hx (by decide), ?_⟩)
  rw [nI_clamp (by omega)]
  exact br_f (fq_T_n hT) h
theorem fq_yins_new {a : SY} {x : Nat} (hx : x < 256) (hT : fq_T a x = false) : ∀ post : Int32 → SY → Prop, post 1 (upd a x 1) → wpY_insert post a (nI x) := by
  intro post h
  unfold wpY_insert
  refine fq_num hx (br_f (by decide) ⟨vp_in_nI hx (by decide), ?_⟩)
  rw [nI_clamp (by omega), fq_b1]
  exact br_t (fq_T_z hT) ⟨vp_in_nI hx (by decide), nm_e h⟩
theorem fq_ydel_out {a : SY} {p : Int32} (hp : p < 0 ∨ nI 256 ≤ p) : ∀ post : Int32 → SY → Prop, post 0 a → wpY_delete post a p := by
  intro post h
  unfold wpY_delete
  exact fq_num_out hp (br_t rfl h)
theorem fq_ydel_no {a : SY} {x : Nat} (hx : x < 256) (hT : fq_T a x = false) : ∀ post : Int32 → SY → Prop, post 0 a → wpY_delete post a (nI x) := by
  intro post h
  unfold wpY_delete
  refine fq_num hx (br_f (by decide) ⟨vp_in_nI hx (by decide), ?_⟩)
  rw [nI_clamp (by omega)]
  exact br_t (fq_T_z hT) h
theorem fq_ydel_yes {a : SY} {x : Nat} (hx : x < 256) (hT : fq_T a x = true) : ∀ post : Int32 → SY → Prop, post 1 (upd a x 0) → wpY_delete post a (nI x) := by
  intro post h
  unfold wpY_delete
  refine fq_num hx (br_f (by decide) ⟨vp_in_nI hx (by decide), ?_⟩)
  rw [nI_clamp (by omega), fq_b0]
  exact br_f (fq_T_n hT) ⟨vp_in_nI hx (by decide), nm_e h⟩
theorem fq_ge256 {i : Nat} (h : i = 256) : (256 : Int32) ≤ nI i := by subst h; decide
theorem fq_lt256 {i : Nat} (h : i < 256) : ¬ (256 : Int32) ≤ nI i := nI_ge (b := 256) h (by decide)
theorem fq_yaft2 (a : SY) (p : Int32) : ∀ d i : Nat, i + d = 256 → (∀ z : Nat, z < i → fq_T a z = true → ¬ p.toInt < z) → ∃ r : Int32, fq_Aft 256 (fq_T a) p.toInt r ∧ ∀ post : Int32 → Prop, post r → wY_after_2 post p a (d + 1) (nI i) := by
  intro d
  induction d with
  | zero =>
    intro i hi h
    exact ⟨-1, Or.inr ⟨fun z hz e => h z (by omega) e, rfl⟩, fun post hp => br_t (fq_ge256 (by omega)) hp⟩
  | succ d ih =>
    intro i hi h
    have hn : ¬ (256 : Int32) ≤ nI i := fq_lt256 (by omega)
    by_cases hle : nI i ≤ p
    · obtain ⟨r, h1, h2⟩ := ih (i + 1) (by omega) (fun z hz e => by
        by_cases ez : z = i
        · subst ez
          rw [Int32.le_iff_toInt_le, nI_toInt (by omega)] at hle
          omega
        · exact h z (by omega) e)
      exact ⟨r, h1, fun post hp => br_f hn (br_t hle (nm_r (nI_1 i) (h2 post hp)))⟩
    · cases hT : fq_T a i
      · obtain ⟨r, h1, h2⟩ := ih (i + 1) (by omega) (fun z hz e => by
          by_cases ez : z = i
          · subst ez; exact (fq_tf e hT).elim
          · exact h z (by omega) e)
        refine ⟨r, h1, fun post hp => br_f hn (br_f hle ⟨vp_in_nI (by omega) (by decide), ?_⟩)⟩
        rw [nI_clamp (by omega)]
        exact br_t (fq_T_z hT) (nm_r (nI_1 i) (h2 post hp))
      · refine ⟨nI i, Or.inl ⟨i, by omega, hT, ?_, fun z hz e q => ?_, rfl⟩, fun post hp => br_f hn (br_f hle ⟨vp_in_nI (by omega) (by decide), ?_⟩)⟩
        · rw [Int32.le_iff_toInt_le, nI_toInt (by omega)] at hle
          omega
        · exact Nat.le_of_not_lt fun w => h z w e q
        · rw [nI_clamp (by omega)]
          exact br_f (fq_T_n hT) hp
theorem fq_yafter (a : SY) (p : Int32) : ∃ r : Int32, fq_Aft 256 (fq_T a) p.toInt r ∧ ∀ post : Int32 → Prop, post r → wpY_after post a p := by
  obtain ⟨r, h1, h2⟩ := fq_yaft2 a p 256 0 rfl (fun z hz => by omega)
  exact ⟨r, h1, fun post hp => Exists.intro 257 (h2 post hp)⟩
def fq_dn : Nat → Int32
  | 0 => -1
  | i + 1 => nI i
theorem fq_dn_s : ∀ i : Nat, nI i + (-1) = fq_dn i
  | 0 => by decide
  | i + 1 => pk_m1 i
theorem fq_ybef4 (a : SY) (p : Int32) : ∀ i : Nat, i ≤ 256 → (∀ z : Nat, i ≤ z → z < 256 → fq_T a z = true → ¬ (z : Int) < p.toInt) → ∃ r : Int32, fq_Bef 256 (fq_T a) p.toInt r ∧ ∀ post : Int32 → Prop, post r → wY_before_4 post p a (i + 1) (fq_dn i) := by
  intro i
  induction i with
  | zero =>
    intro hi h
    exact ⟨-1, Or.inr ⟨fun z hz e => h z (by omega) hz e, rfl⟩, fun post hp => br_t fq_neg hp⟩
  | succ i ih =>
    intro hi h
    have hn : ¬ fq_dn (i + 1) < 0 := nI_pos (by omega)
    by_cases hle : p ≤ nI i
    · obtain ⟨r, h1, h2⟩ := ih (by omega) (fun z hz hz2 e => by
        by_cases ez : z = i
        · subst ez
          rw [Int32.le_iff_toInt_le, nI_toInt (by omega)] at hle
          omega
        · exact h z (by omega) hz2 e)
      exact ⟨r, h1, fun post hp => br_f hn (br_t hle (nm_r (fq_dn_s i) (h2 post hp)))⟩
    · cases hT : fq_T a i
      · obtain ⟨r, h1, h2⟩ := ih (by omega) (fun z hz hz2 e => by
          by_cases ez : z = i
          · subst ez; exact (fq_tf e hT).elim
          · exact h z (by omega) hz2 e)
        refine ⟨r, h1, fun post hp => br_f hn (br_f hle ⟨vp_in_nI (by omega) (by decide), ?_⟩)⟩
        show (a (nI i).toNatClampNeg = 0 → _) ∧ (¬ a (nI i).toNatClampNeg = 0 → _)
        rw [nI_clamp (by omega)]
        exact br_t (fq_T_z hT) (nm_r (fq_dn_s i) (h2 post hp))
      · refine ⟨nI i, Or.inl ⟨i, by omega, hT, ?_, fun z hz e q => ?_, rfl⟩, fun post hp => br_f hn (br_f hle ⟨vp_in_nI (by omega) (by decide), ?_⟩)⟩
        · rw [Int32.le_iff_toInt_le, nI_toInt (by omega)] at hle
          omega
        · exact Nat.le_of_not_lt fun w => h z w hz e q
        · show (a (nI i).toNatClampNeg = 0 → _) ∧ (¬ a (nI i).toNatClampNeg = 0 → _)
          rw [nI_clamp (by omega)]
          exact br_f (fq_T_n hT) hp
theorem fq_ybefore (a : SY) (p : Int32) : ∃ r : Int32, fq_Bef 256 (fq_T a) p.toInt r ∧ ∀ post : Int32 → Prop, post r → wpY_before post a p := by
  obtain ⟨r, h1, h2⟩ := fq_ybef4 a p 256 (Nat.le_refl _) (fun z hz => by omega)
  exact ⟨r, h1, fun post hp => Exists.intro 257 (h2 post hp)⟩
/-- the members from a to b -/
def fq_btw (T : Nat → Bool) (a b : Int) : Nat → Bool := fun m => T m && (decide (a ≤ (m : Int)) && decide ((m : Int) ≤ b))
theorem fq_btw_t {T : Nat → Bool} {a b : Int} {m : Nat} (h : T m = true) (ha : a ≤ m) (hb : (m : Int) ≤ b) : fq_btw T a b m = true := by
  unfold fq_btw; rw [h, decide_eq_true ha, decide_eq_true hb]; rfl
theorem fq_btw_T {T : Nat → Bool} {a b : Int} {m : Nat} (h : T m = false) : fq_btw T a b m = false := by
  unfold fq_btw; rw [h]; rfl
theorem fq_btw_a {T : Nat → Bool} {a b : Int} {m : Nat} (h : ¬ a ≤ m) : fq_btw T a b m = false := by
  unfold fq_btw; rw [decide_eq_false h]; cases T m <;> rfl
theorem fq_btw_b {T : Nat → Bool} {a b : Int} {m : Nat} (h : ¬ (m : Int) ≤ b) : fq_btw T a b m = false := by
  unfold fq_btw; rw [decide_eq_false h]; cases T m <;> cases decide (a ≤ (m : Int)) <;> rfl
theorem fq_ycnt5 (a : SY) (p q : Int32) {post : Int32 → Prop} (hp : post (nI (fq_n (fq_btw (fq_T a) p.toInt q.toInt) 256))) : ∀ d i : Nat, i + d = 256 → wY_countBetween_5 post p q a (d + 1) (nI (fq_n (fq_btw (fq_T a) p.toInt q.toInt) i)) (nI i) := by
  intro d
  induction d with
  | zero =>
    intro i hi
    have e : i = 256 := by omega
    subst e
    exact br_t (fq_ge256 rfl) hp
  | succ d ih =>
    intro i hi
    have hn : ¬ (256 : Int32) ≤ nI i := fq_lt256 (by omega)
    have ih := ih (i + 1) (by omega)
    refine br_f hn ⟨vp_in_nI (by omega) (by decide), ?_⟩
    rw [nI_clamp (by omega)]
    refine br_c (fun z => nm_r (nI_1 i) ?_) (fun z => ?_)
    · rw [fq_n_f (fq_btw_T (fq_T_f z))] at ih; exact ih
    · refine br_c (fun w => nm_r (nI_1 i) ?_) (fun w => br_c (fun v => nm_r (nI_1 i) ?_) (fun v => nm_r (nI_1 _) (nm_r (nI_1 i) ?_)))
      · rw [Int32.lt_iff_toInt_lt, nI_toInt (by omega)] at w
        rw [fq_n_f (fq_btw_a (by omega))] at ih; exact ih
      · rw [Int32.lt_iff_toInt_lt, nI_toInt (by omega)] at v
        rw [fq_n_f (fq_btw_b (by omega))] at ih; exact ih
      · rw [Int32.lt_iff_toInt_lt, nI_toInt (by omega)] at v w
        rw [fq_n_t (fq_btw_t (fq_T_t z) (by omega) (by omega))] at ih; exact ih
theorem fq_ycount (a : SY) (p q : Int32) : ∀ post : Int32 → Prop, post (nI (fq_n (fq_btw (fq_T a) p.toInt q.toInt) 256)) → wpY_countBetween post a p q := by
  intro post hp
  exact Exists.intro 257 (fq_ycnt5 a p q hp 256 0 rfl)
/-- the member with k members below it -/
def fq_Sel (T : Nat → Bool) (k : Int) (r : Int32) : Prop :=
  (∃ y : Nat, y < 256 ∧ T y = true ∧ (fq_n T y : Int) = k ∧ r = nI y) ∨ ((∀ y : Nat, y < 256 → T y = true → ¬ (fq_n T y : Int) = k) ∧ r = -1)
theorem fq_n_lt {T : Nat → Bool} {x y : Nat} (h : T x = true) (hxy : x < y) : fq_n T x < fq_n T y := by
  have a := fq_n_mono (T := T) (show x + 1 ≤ y by omega)
  rw [fq_n_t h] at a
  omega
theorem fq_Sel_u {T : Nat → Bool} {k : Int} {r r' : Int32} (h : fq_Sel T k r) (h' : fq_Sel T k r') : r' = r := by
  rcases h with ⟨y, a1, a2, a3, rfl⟩ | ⟨a1, rfl⟩ <;> rcases h' with ⟨y', b1, b2, b3, rfl⟩ | ⟨b1, rfl⟩
  · have e : y' = y := by
      rcases Nat.lt_trichotomy y' y with c | c | c
      · have := fq_n_lt b2 c; omega
      · exact c
      · have := fq_n_lt a2 c; omega
    rw [e]
  · exact absurd a3 (b1 _ a1 a2)
  · exact absurd b3 (a1 _ b1 b2)
  · rfl
theorem fq_ysel4 (a : SY) (p : Int32) : ∀ d i : Nat, i + d = 256 → (∀ z : Nat, z < i → fq_T a z = true → ¬ (fq_n (fq_T a) z : Int) = p.toInt) → ∃ r : Int32, fq_Sel (fq_T a) p.toInt r ∧ ∀ post : Int32 → Prop, post r → wY_select_4 post p a (d + 1) (nI (fq_n (fq_T a) i)) (nI i) := by
  intro d
  induction d with
  | zero =>
    intro i hi h
    exact ⟨-1, Or.inr ⟨fun z hz e => h z (by omega) e, rfl⟩, fun post hp => br_t (fq_ge256 (by omega)) hp⟩
  | succ d ih =>
    intro i hi h
    have hn : ¬ (256 : Int32) ≤ nI i := fq_lt256 (by omega)
    have hni := fq_n_le (T := fq_T a) i
    cases hT : fq_T a i
    · obtain ⟨r, h1, h2⟩ := ih (i + 1) (by omega) (fun z hz e => by
        by_cases ez : z = i
        · subst ez; exact (fq_tf e hT).elim
        · exact h z (by omega) e)
      rw [fq_n_f hT] at h2
      refine ⟨r, h1, fun post hp => br_f hn ⟨vp_in_nI (by omega) (by decide), ?_⟩⟩
      rw [nI_clamp (by omega)]
      exact br_t (fq_T_z hT) (nm_r (nI_1 i) (h2 post hp))
    · by_cases e : nI (fq_n (fq_T a) i) = p
      · refine ⟨nI i, Or.inl ⟨i, by omega, hT, ?_, rfl⟩, fun post hp => br_f hn ⟨vp_in_nI (by omega) (by decide), ?_⟩⟩
        · rw [← e, nI_toInt (by omega)]
        · rw [nI_clamp (by omega)]
          exact br_f (fq_T_n hT) (br_t e hp)
      · obtain ⟨r, h1, h2⟩ := ih (i + 1) (by omega) (fun z hz ez => by
          by_cases ei : z = i
          · subst ei
            intro q
            refine e (Int32.toInt_inj.mp ?_)
            rw [nI_toInt (by omega)]
            exact q
          · exact h z (by omega) ez)
        rw [fq_n_t hT] at h2
        refine ⟨r, h1, fun post hp => br_f hn ⟨vp_in_nI (by omega) (by decide), ?_⟩⟩
        rw [nI_clamp (by omega)]
        exact br_f (fq_T_n hT) (br_f e (nm_r (nI_1 _) (nm_r (nI_1 i) (h2 post hp))))
theorem fq_yselect (a : SY) (p : Int32) : ∃ r : Int32, fq_Sel (fq_T a) p.toInt r ∧ ∀ post : Int32 → Prop, post r → wpY_select post a p := by
  obtain ⟨r, h1, h2⟩ := fq_ysel4 a p 256 0 rfl (fun z hz => by omega)
  exact ⟨r, h1, fun post hp => Exists.intro 257 (h2 post hp)⟩
/-- the members but those from a to b -/
def fq_rest (T : Nat → Bool) (a b : Int) : Nat → Bool := fun m => T m && !(decide (a ≤ (m : Int)) && decide ((m : Int) ≤ b))
theorem fq_rest_T {T : Nat → Bool} {a b : Int} {m : Nat} (h : T m = false) : fq_rest T a b m = false := by
  unfold fq_rest; rw [h]; rfl
theorem fq_rest_a {T : Nat → Bool} {a b : Int} {m : Nat} (h : ¬ a ≤ m) : fq_rest T a b m = T m := by
  unfold fq_rest; rw [decide_eq_false h]; cases T m <;> rfl
theorem fq_rest_b {T : Nat → Bool} {a b : Int} {m : Nat} (h : ¬ (m : Int) ≤ b) : fq_rest T a b m = T m := by
  unfold fq_rest; rw [decide_eq_false h]; cases T m <;> cases decide (a ≤ (m : Int)) <;> rfl
theorem fq_rest_f {T : Nat → Bool} {a b : Int} {m : Nat} (ha : a ≤ m) (hb : (m : Int) ≤ b) : fq_rest T a b m = false := by
  unfold fq_rest; rw [decide_eq_true ha, decide_eq_true hb]; cases T m <;> rfl
def fq_upto (T T' : Nat → Bool) (i : Nat) (S : Nat → Bool) : Prop := ∀ j, j < 256 → S j = if j < i then T' j else T j
theorem fq_upto_s {T T' : Nat → Bool} {i : Nat} {a' : Nat → Int32} {v : Int32} (h : fq_upto T T' i (fq_T a')) (hv : decide (¬ v = 0) = T' i) : fq_upto T T' (i + 1) (fq_T (upd a' i v)) := by
  intro j hj
  by_cases e : j = i
  · subst e
    rw [if_pos (by omega), ← hv]
    unfold fq_T
    rw [pk_us]
  · have q : fq_T (upd a' i v) j = fq_T a' j := by unfold fq_T; rw [pk_un e]
    rw [q, h j hj]
    by_cases w : j < i
    · rw [if_pos w, if_pos (by omega)]
    · rw [if_neg w, if_neg (by omega)]
theorem fq_ydel10 (T : Nat → Bool) (p q r : Int32) : ∀ (d i : Nat) (a' : Nat → Int32), i + d = 256 → fq_upto T (fq_rest T p.toInt q.toInt) i (fq_T a') → ∃ b : Nat → Int32, (∀ j, j < 256 → fq_T b j = fq_rest T p.toInt q.toInt j) ∧ ∀ post : Int32 → SY → Prop, post r b → wY_deleteBetween_10 post p q r (d + 1) (nI i) a' := by
  intro d
  induction d with
  | zero =>
    intro i a' hi h
    exact ⟨a', fun j hj => by rw [h j hj, if_pos (by omega)], fun post hp => br_t (fq_ge256 (by omega)) hp⟩
  | succ d ih =>
    intro i a' hi h
    have hn : ¬ (256 : Int32) ≤ nI i := fq_lt256 (by omega)
    have hin : vp_in (nI i) 256 := vp_in_nI (by omega) (by decide)
    have hTi : fq_T a' i = T i := by rw [h i (by omega), if_neg (by omega)]
    cases hT : fq_T a' i
    · obtain ⟨b, h1, h2⟩ := ih (i + 1) (upd a' i 0) (by omega) (fq_upto_s h (by rw [fq_rest_T (by rw [← hTi, hT])]; rfl))
      refine ⟨b, h1, fun post hp => br_f hn ⟨hin, ?_⟩⟩
      rw [nI_clamp (by omega), fq_b0]
      exact br_t (fq_T_z hT) ⟨hin, nm_e (nm_r (nI_1 i) (h2 post hp))⟩
    · by_cases w : nI i < p
      · have w' := w
        rw [Int32.lt_iff_toInt_lt, nI_toInt (by omega)] at w'
        obtain ⟨b, h1, h2⟩ := ih (i + 1) (upd a' i 1) (by omega) (fq_upto_s h (by rw [fq_rest_a (by omega), ← hTi, hT]; rfl))
        refine ⟨b, h1, fun post hp => br_f hn ⟨hin, ?_⟩⟩
        rw [nI_clamp (by omega), fq_b1]
        exact br_f (fq_T_n hT) (br_t w ⟨hin, nm_e (nm_r (nI_1 i) (h2 post hp))⟩)
      · have w' := w
        rw [Int32.lt_iff_toInt_lt, nI_toInt (by omega)] at w'
        by_cases v : nI i ≤ q
        · have v' := v
          rw [Int32.le_iff_toInt_le, nI_toInt (by omega)] at v'
          obtain ⟨b, h1, h2⟩ := ih (i + 1) (upd a' i 0) (by omega) (fq_upto_s h (by rw [fq_rest_f (by omega) (by omega)]; rfl))
          refine ⟨b, h1, fun post hp => br_f hn ⟨hin, ?_⟩⟩
          rw [nI_clamp (by omega), fq_b0]
          exact br_f (fq_T_n hT) (br_f w (br_t v ⟨hin, nm_e (nm_r (nI_1 i) (h2 post hp))⟩))
        · have v' := v
          rw [Int32.le_iff_toInt_le, nI_toInt (by omega)] at v'
          obtain ⟨b, h1, h2⟩ := ih (i + 1) (upd a' i 1) (by omega) (fq_upto_s h (by rw [fq_rest_b (by omega), ← hTi, hT]; rfl))
          refine ⟨b, h1, fun post hp => br_f hn ⟨hin, ?_⟩⟩
          rw [nI_clamp (by omega), fq_b1]
          exact br_f (fq_T_n hT) (br_f w (br_f v ⟨hin, nm_e (nm_r (nI_1 i) (h2 post hp))⟩))
theorem fq_ydelB (a : SY) (p q : Int32) : ∃ b : Nat → Int32, (∀ j, j < 256 → fq_T b j = fq_rest (fq_T a) p.toInt q.toInt j) ∧ ∀ post : Int32 → SY → Prop, post (nI (fq_n (fq_btw (fq_T a) p.toInt q.toInt) 256)) b → wpY_deleteBetween post a p q := by
  obtain ⟨b, h1, h2⟩ := fq_ydel10 (fq_T a) p q (nI (fq_n (fq_btw (fq_T a) p.toInt q.toInt) 256)) 256 0 a rfl (fun j hj => by rw [if_neg (by omega)])
  refine ⟨b, h1, fun post hp => ?_⟩
  unfold wpY_deleteBetween
  exact fq_ycount a p q _ ⟨257, h2 post hp⟩
end
section
/-- the member nearest to p, the lesser one of two -/
def fq_Near (T : Nat → Bool) (p : Int) (r : Int32) : Prop :=
  (∃ y : Nat, y < 256 ∧ T y = true ∧ (∀ z : Nat, z < 256 → T z = true → ((y : Int) - p).natAbs < ((z : Int) - p).natAbs ∨ (((y : Int) - p).natAbs = ((z : Int) - p).natAbs ∧ y ≤ z)) ∧ r = nI y) ∨ ((∀ z : Nat, z < 256 → T z = false) ∧ r = -1)
theorem fq_Near_u {T : Nat → Bool} {p : Int} {r r' : Int32} (h : fq_Near T p r) (h' : fq_Near T p r') : r' = r := by
  rcases h with ⟨y, a1, a2, a3, rfl⟩ | ⟨a1, rfl⟩ <;> rcases h' with ⟨y', b1, b2, b3, rfl⟩ | ⟨b1, rfl⟩
  · have c1 := a3 y' b1 b2
    have c2 := b3 y a1 a2
    have e : y' = y := by omega
    rw [e]
  · exact (fq_tf a2 (b1 _ a1)).elim
  · exact (fq_tf b2 (a1 _ b1)).elim
  · rfl
/-- what the reference's loop has found below i -/
def fq_NI (T : Nat → Bool) (p : Int) (i : Nat) (b : Int32) (l : Int64) : Prop :=
  (b = -1 ∧ ∀ z : Nat, z < i → T z = false) ∨
  (∃ y : Nat, y < i ∧ T y = true ∧ b = nI y ∧ l.toInt = ((((y : Int) - p).natAbs : Nat) : Int) ∧ ∀ z : Nat, z < i → T z = true → ((y : Int) - p).natAbs < ((z : Int) - p).natAbs ∨ (((y : Int) - p).natAbs = ((z : Int) - p).natAbs ∧ y ≤ z))
theorem fq_ld {i : Nat} (hi : i < 256) (p : Int32) : ((nI i).toInt64 - p.toInt64).toInt = (i : Int) - p.toInt := by
  have h1 := p.le_toInt
  have h2 := p.toInt_lt
  rw [Int64.toInt_sub, Int32.toInt_toInt64, Int32.toInt_toInt64, nI_toInt (by omega)]
  exact Int.bmod_eq_of_le (by omega) (by omega)
theorem fq_ln {x : Int64} (h1 : -4611686018427387904 ≤ x.toInt) (h2 : x.toInt < 4611686018427387904) : (-x).toInt = -x.toInt := by
  rw [Int64.toInt_neg]
  exact Int.bmod_eq_of_le (by omega) (by omega)
theorem fq_near38 {a : SY} {p : Int32} {i : Nat} {b : Int32} {l z0 : Int64} {post : Int32 → Prop} {J : Int32 → Int64 → Int32 → Prop} (hi : i < 256) (hI : fq_NI (fq_T a) p.toInt i b l) (hz : z0.toInt = ((((i : Int) - p.toInt).natAbs : Nat) : Int)) (hJ : ∀ b' l', fq_NI (fq_T a) p.toInt (i + 1) b' l' → J b' l' (nI (i + 1))) : wY_nearest_38 post J p b l (nI i) z0 a := by
  unfold wY_nearest_38
  refine ⟨vp_in_nI hi (by decide), ?_⟩
  rw [nI_clamp (by omega)]
  cases hT : fq_T a i
  · refine br_t (fq_T_z hT) (nm_r (nI_1 i) (hJ _ _ ?_))
    rcases hI with ⟨e, h⟩ | ⟨y, h1, h2, h3, h4, h5⟩
    · refine Or.inl ⟨e, fun z hz => ?_⟩
      by_cases q : z = i
      · rw [q]; exact hT
      · exact h z (by omega)
    · refine Or.inr ⟨y, by omega, h2, h3, h4, fun z hz e => ?_⟩
      by_cases q : z = i
      · subst q; exact (fq_tf e hT).elim
      · exact h5 z (by omega) e
  · refine br_f (fq_T_n hT) ?_
    rcases hI with ⟨e, h⟩ | ⟨y, h1, h2, h3, h4, h5⟩
    · subst e
      refine br_t fq_neg (nm_r (nI_1 i) (hJ _ _ (Or.inr ⟨i, by omega, hT, rfl, hz, fun z hz e => ?_⟩)))
      by_cases q : z = i
      · subst q; exact Or.inr ⟨rfl, Nat.le_refl _⟩
      · exact (fq_tf e (h z (by omega))).elim
    · subst h3
      refine br_f (nI_pos (by omega)) (br_c (fun w => nm_r (nI_1 i) (hJ _ _ (Or.inr ⟨y, by omega, h2, rfl, h4, fun z hz e => ?_⟩))) (fun w => nm_r (nI_1 i) (hJ _ _ (Or.inr ⟨i, by omega, hT, rfl, hz, fun z hz' e => ?_⟩))))
      · by_cases q : z = i
        · subst q
          rw [Int64.le_iff_toInt_le] at w
          omega
        · exact h5 z (by omega) e
      · by_cases q : z = i
        · subst q; exact Or.inr ⟨rfl, Nat.le_refl _⟩
        · rw [Int64.le_iff_toInt_le] at w
          have := h5 z (by omega) e
          omega
theorem fq_near7 (a : SY) (p : Int32) {post : Int32 → Prop} (hp : ∀ r, fq_Near (fq_T a) p.toInt r → post r) : ∀ (d i : Nat) (b : Int32) (l : Int64), i + d = 256 → fq_NI (fq_T a) p.toInt i b l → wY_nearest_7 post p a (d + 1) b l (nI i) := by
  intro d
  induction d with
  | zero =>
    intro i b l hi h
    have e : i = 256 := by omega
    subst e
    refine br_t (fq_ge256 rfl) (hp b ?_)
    rcases h with ⟨e, h⟩ | ⟨y, h1, h2, h3, h4, h5⟩
    · exact Or.inr ⟨h, e⟩
    · exact Or.inl ⟨y, h1, h2, h5, h3⟩
  | succ d ih =>
    intro i b l hi h
    have hn : ¬ (256 : Int32) ≤ nI i := fq_lt256 (by omega)
    have hd := fq_ld (show i < 256 by omega) p
    have h1 := p.le_toInt
    have h2 := p.toInt_lt
    refine br_f hn (nm_e (br_c (fun w => ?_) (fun w => ?_)))
    · refine fq_near38 (by omega) h ?_ (fun b' l' h' => ih (i + 1) b' l' (by omega) h')
      rw [Int64.le_iff_toInt_le, hd, Int64.toInt_zero] at w
      rw [hd]
      omega
    · refine fq_near38 (by omega) h ?_ (fun b' l' h' => ih (i + 1) b' l' (by omega) h')
      rw [Int64.le_iff_toInt_le, hd, Int64.toInt_zero] at w
      rw [fq_ln (by omega) (by omega), hd]
      omega
theorem fq_ynear (a : SY) (p : Int32) : ∀ post : Int32 → Prop, (∀ r, fq_Near (fq_T a) p.toInt r → post r) → wpY_nearest post a p := by
  intro post hp
  exact Exists.intro 257 (fq_near7 a p hp 256 0 (-1) 0 rfl (Or.inl ⟨rfl, fun z hz => by omega⟩))
/-- X's nearest, out of its two neighbours -/
theorem fq_near_of {T : Nat → Bool} {p up dn : Int32} (hA : fq_Aft 256 T p.toInt up) (hB : fq_Bef 256 T (p.toInt + 1) dn) {fl fg fc : Int32} {lo hi pt bt : Nat → Int32} : ∃ r : Int32, fq_Near T p.toInt r ∧ ∀ post : Int32 → Prop, post r → wX_nearest_23 post p up dn fl fg fc lo hi pt bt := by
  rcases hA with ⟨y, a1, a2, a3, a4, rfl⟩ | ⟨a1, rfl⟩ <;> rcases hB with ⟨w, b1, b2, b3, b4, rfl⟩ | ⟨b1, rfl⟩
  · obtain ⟨x, hx, rfl⟩ : ∃ x : Nat, x < 2 ^ 31 ∧ p = nI x := nI_of (by
      rw [Int32.lt_iff_toInt_lt, Int32.toInt_zero]
      omega)
    rw [nI_toInt hx] at a3 a4 b3 b4
    rw [nI_toInt hx]
    have hsp : ∀ z : Nat, z < 256 → T z = true → y ≤ z ∨ z ≤ w := by
      intro z hz e
      by_cases q : (x : Int) < z
      · exact Or.inl (a4 z hz e q)
      · exact Or.inr (b4 z hz e (by omega))
    by_cases q : y - x < x - w
    · refine ⟨nI y, Or.inl ⟨y, a1, a2, fun z hz e => ?_, rfl⟩, fun post h => ?_⟩
      · have := hsp z hz e
        omega
      · unfold wX_nearest_23
        rw [pk_sub (by omega), pk_sub (by omega)]
        exact br_f (nI_pos (by omega)) (br_t (nI_pos' (by omega)) (br_t (nI_lt q (by omega)) h))
    · refine ⟨nI w, Or.inl ⟨w, b1, b2, fun z hz e => ?_, rfl⟩, fun post h => ?_⟩
      · have := hsp z hz e
        omega
      · unfold wX_nearest_23
        rw [pk_sub (by omega), pk_sub (by omega)]
        exact br_f (nI_pos (by omega)) (br_t (nI_pos' (by omega)) (br_f (nI_nlt (by omega) (by omega)) h))
  · refine ⟨nI y, Or.inl ⟨y, a1, a2, fun z hz e => ?_, rfl⟩, fun post h => ?_⟩
    · have h1 := b1 z hz e
      have h2 := a4 z hz e (by omega)
      omega
    · unfold wX_nearest_23 wX_nearest_32
      exact br_f (nI_pos (by omega)) (br_f fq_n0 (br_t (nI_pos' (by omega)) h))
  · refine ⟨nI w, Or.inl ⟨w, b1, b2, fun z hz e => ?_, rfl⟩, fun post h => ?_⟩
    · have h1 := a1 z hz e
      have h2 := b4 z hz e (by omega)
      omega
    · unfold wX_nearest_23 wX_nearest_32
      exact br_t fq_neg (br_f fq_n0 h)
  · refine ⟨-1, Or.inr ⟨fun z hz => fq_nt fun e => ?_, rfl⟩, fun post h => ?_⟩
    · have h1 := a1 z hz e
      have h2 := b1 z hz e
      omega
    · unfold wX_nearest_23 wX_nearest_32
      exact br_t fq_neg (br_f fq_n0 h)
theorem fq_xnear {u : SX} {T : Nat → Bool} (hR : fq_R u T) (p : Int32) : ∃ r : Int32, fq_Near T p.toInt r ∧ ∀ post : Int32 → Prop, post r → wpX_nearest post u p := by
  obtain ⟨up, a1, a2⟩ := fq_after hR p
  obtain ⟨fl, fg, fc, lo, hi, pt, bt, rfl, hc, hQ⟩ := id hR
  have hM : ∃ b : Bool, (b = true → p.toInt < 256 ∧ 0 ≤ p.toInt ∧ T p.toInt.toNat = true) ∧ (b = false → ∀ z : Nat, z < 256 → T z = true → ¬ (z : Int) = p.toInt) ∧ ∀ post : Int32 → Prop, post (fq_01 b) → wpX_member post (fl, fg, fc, lo, hi, pt, bt) p := by
    rcases pk_ix p (n := 256) (by decide) with h | h | ⟨x, hx, rfl⟩
    · refine ⟨false, fun q => (by cases q), fun _ z hz e => ?_, fun post h' => fq_mem_out (Or.inl h) post h'⟩
      rw [Int32.lt_iff_toInt_lt, Int32.toInt_zero] at h
      omega
    · refine ⟨false, fun q => (by cases q), fun _ z hz e => ?_, fun post h' => fq_mem_out (Or.inr h) post h'⟩
      rw [Int32.le_iff_toInt_le, nI_toInt (by decide)] at h
      omega
    · refine ⟨T x, fun q => ?_, fun q z hz e => ?_, fq_mem hR hx⟩
      · rw [nI_toInt (by omega)]
        exact ⟨by omega, by omega, q⟩
      · rw [nI_toInt (by omega)]
        intro w
        have w : z = x := by omega
        subst w
        exact fq_tf e q
  obtain ⟨b, m1, m2, m3⟩ := hM
  cases b
  · obtain ⟨dn, b1, b2⟩ := fq_before hR p
    have hB : fq_Bef 256 T (p.toInt + 1) dn := by
      have m := m2 rfl
      rcases b1 with ⟨w, c1, c2, c3, c4, c5⟩ | ⟨c1, c2⟩
      · exact Or.inl ⟨w, c1, c2, by omega, fun z hz e q => c4 z hz e (by have := m z hz e; omega), c5⟩
      · exact Or.inr ⟨fun z hz e q => c1 z hz e (by have := m z hz e; omega), c2⟩
    obtain ⟨r, d1, d2⟩ := fq_near_of a1 hB (fl := fl) (fg := fg) (fc := fc) (lo := lo) (hi := hi) (pt := pt) (bt := bt)
    refine ⟨r, d1, fun post h => ?_⟩
    unfold wpX_nearest
    dsimp only
    exact a2 _ (m3 _ (br_t rfl (b2 _ (d2 post h))))
  · obtain ⟨k1, k2, k3⟩ := m1 rfl
    have hB : fq_Bef 256 T (p.toInt + 1) p := by
      refine Or.inl ⟨p.toInt.toNat, by omega, k3, by omega, fun z hz e q => by omega, Int32.toInt_inj.mp ?_⟩
      rw [nI_toInt (by omega)]
      omega
    obtain ⟨r, d1, d2⟩ := fq_near_of a1 hB (fl := fl) (fg := fg) (fc := fc) (lo := lo) (hi := hi) (pt := pt) (bt := bt)
    refine ⟨r, d1, fun post h => ?_⟩
    unfold wpX_nearest
    dsimp only
    exact a2 _ (m3 _ (br_f (by decide) (d2 post h)))
end
section
theorem fq_flA {fl fg : Int32} {lo hi pt bt : Nat → Int32} {T : Nat → Bool} (hQ : fq_Q fl fg lo hi pt bt T) {k : Int} (hk : k < 0) : fq_Aft 256 T k fl := by
  rcases hQ with ⟨h1, h2, h3, h4⟩ | ⟨m, g, h1, h2, h3, h4, h5, h6, h7, h8⟩
  · exact Or.inr ⟨fun z hz e => (fq_tf e (h1 z hz)).elim, h2⟩
  · exact Or.inl ⟨m, h1, h3, by omega, fun z hz e _ => (h5 z hz e).1, h6⟩
theorem fq_fgB {fl fg : Int32} {lo hi pt bt : Nat → Int32} {T : Nat → Bool} (hQ : fq_Q fl fg lo hi pt bt T) {k : Int} (hk : 256 ≤ k) : fq_Bef 256 T k fg := by
  rcases hQ with ⟨h1, h2, h3, h4⟩ | ⟨m, g, h1, h2, h3, h4, h5, h6, h7, h8⟩
  · exact Or.inr ⟨fun z hz e => (fq_tf e (h1 z hz)).elim, h3⟩
  · exact Or.inl ⟨g, h2, h4, by omega, fun z hz e _ => (h5 z hz e).2, h7⟩
theorem fq_from {u : SX} {T : Nat → Bool} (hR : fq_R u T) (p : Int32) : ∃ r : Int32, fq_Aft 256 T (p.toInt - 1) r ∧ ∀ post : Int32 → Prop, post r → wpX_from post u p := by
  by_cases h : 0 < p
  · have h' := h
    rw [Int32.lt_iff_toInt_lt, Int32.toInt_zero] at h'
    have h2 := p.toInt_lt
    have e : (p - 1).toInt = p.toInt - 1 := by
      rw [Int32.toInt_sub, show (1 : Int32).toInt = 1 by decide]
      exact Int.bmod_eq_of_le (by omega) (by omega)
    obtain ⟨r, a1, a2⟩ := fq_after hR (p - 1)
    rw [e] at a1
    refine ⟨r, a1, fun post hp => ?_⟩
    obtain ⟨fl, fg, fc, lo, hi, pt, bt⟩ := u
    unfold wpX_from
    dsimp only
    exact br_t h (a2 _ hp)
  · obtain ⟨fl, fg, fc, lo, hi, pt, bt, rfl, hc, hQ⟩ := hR
    have h' := h
    rw [Int32.lt_iff_toInt_lt, Int32.toInt_zero] at h'
    refine ⟨fl, fq_flA hQ (by omega), fun post hp => ?_⟩
    unfold wpX_from
    dsimp only
    exact br_f h hp
theorem fq_Aft_c {S S' : Nat → Bool} {x : Int} {r : Int32} (h : ∀ z : Nat, z < 256 → x < z → S z = S' z) (hA : fq_Aft 256 S x r) : fq_Aft 256 S' x r := by
  rcases hA with ⟨y, a1, a2, a3, a4, a5⟩ | ⟨a1, a2⟩
  · exact Or.inl ⟨y, a1, (h y a1 a3).symm.trans a2, a3, fun z hz e q => a4 z hz ((h z hz q).trans e) q, a5⟩
  · exact Or.inr ⟨fun z hz e q => a1 z hz ((h z hz q).trans e) q, a2⟩
/-- k members from a to b have been passed, x is the next one -/
def fq_CI (T : Nat → Bool) (a b : Int) (k : Nat) (x : Int32) : Prop :=
  (∃ y : Nat, y < 256 ∧ x = nI y ∧ T y = true ∧ a ≤ y ∧ k = fq_n (fq_btw T a b) y) ∨ (x = -1 ∧ k = fq_n (fq_btw T a b) 256)
theorem fq_CI_0 {T : Nat → Bool} {a b : Int} {r : Int32} (h : fq_Aft 256 T (a - 1) r) : fq_CI T a b 0 r := by
  rcases h with ⟨y, a1, a2, a3, a4, a5⟩ | ⟨a1, a2⟩
  · refine Or.inl ⟨y, a1, a5, a2, by omega, (fq_n_0 fun z hz => ?_).symm⟩
    by_cases q : a ≤ z
    · refine fq_btw_T (fq_nt fun e => ?_)
      have := a4 z (by omega) e (by omega)
      omega
    · exact fq_btw_a q
  · refine Or.inr ⟨a2, (fq_n_0 fun z hz => ?_).symm⟩
    by_cases q : a ≤ z
    · refine fq_btw_T (fq_nt fun e => ?_)
      exact a1 z hz e (by omega)
    · exact fq_btw_a q
theorem fq_CI_s {T : Nat → Bool} {a b : Int} {y : Nat} {r : Int32} (hy : y < 256) (hT : T y = true) (ha : a ≤ y) (hb : (y : Int) ≤ b) (h : fq_Aft 256 T y r) : fq_CI T a b (fq_n (fq_btw T a b) y + 1) r := by
  rw [← fq_n_t (fq_btw_t hT ha hb)]
  rcases h with ⟨w, a1, a2, a3, a4, a5⟩ | ⟨a1, a2⟩
  · refine Or.inl ⟨w, a1, a5, a2, by omega, (fq_n_gap (by omega) fun z h1 h2 => ?_).symm⟩
    refine fq_btw_T (fq_nt fun e => ?_)
    have := a4 z (by omega) e (by omega)
    omega
  · refine Or.inr ⟨a2, (fq_n_gap (by omega) fun z h1 h2 => ?_).symm⟩
    refine fq_btw_T (fq_nt fun e => ?_)
    exact a1 z h2 e (by omega)
theorem fq_CI_e {T : Nat → Bool} {a b : Int} {y : Nat} (hy : y < 256) (hb : b < y) : fq_n (fq_btw T a b) y = fq_n (fq_btw T a b) 256 :=
  (fq_n_gap (by omega) fun z h1 h2 => fq_btw_b (by omega)).symm
theorem fq_cnt12 {fl fg fc : Int32} {lo hi pt bt : Nat → Int32} {T : Nat → Bool} (hR : fq_R (fl, fg, fc, lo, hi, pt, bt) T) (a : Int) (q : Int32) {post : Int32 → Prop} (hp : post (nI (fq_n (fq_btw T a q.toInt) 256))) : ∀ (d k : Nat) (x : Int32), k + d = 256 → fq_CI T a q.toInt k x → wX_countBetween_12 post q fl fg fc lo hi pt bt (d + 1) (nI k) x (nI k) := by
  intro d
  induction d with
  | zero =>
    intro k x hk h
    rcases h with ⟨y, h1, h2, h3, h4, h5⟩ | ⟨h1, h2⟩
    · have := fq_n_le (T := fq_btw T a q.toInt) y
      omega
    · subst h2
      exact br_t (fq_ge256 (by omega)) hp
  | succ d ih =>
    intro k x hk h
    have hn : ¬ (256 : Int32) ≤ nI k := fq_lt256 (by omega)
    rcases h with ⟨y, h1, h2, h3, h4, h5⟩ | ⟨h1, h2⟩
    · subst h2
      refine br_f hn (br_f (nI_pos (by omega)) (br_c (fun w => ?_) (fun w => ?_)))
      · rw [Int32.lt_iff_toInt_lt, nI_toInt (by omega)] at w
        rw [h5, fq_CI_e h1 w]
        exact hp
      · rw [Int32.lt_iff_toInt_lt, nI_toInt (by omega)] at w
        obtain ⟨r, a1, a2⟩ := fq_after hR (nI y)
        rw [nI_toInt (by omega)] at a1
        have c := fq_CI_s (b := q.toInt) h1 h3 h4 (by omega) a1
        rw [← h5] at c
        exact nm_r (nI_1 k) (a2 _ (nm_r (nI_1 k) (ih (k + 1) r (by omega) c)))
    · subst h1 h2
      exact br_f hn (br_t fq_neg hp)
theorem fq_xcount {u : SX} {T : Nat → Bool} (hR : fq_R u T) (p q : Int32) : ∀ post : Int32 → Prop, post (nI (fq_n (fq_btw T p.toInt q.toInt) 256)) → wpX_countBetween post u p q := by
  intro post hp
  obtain ⟨r, a1, a2⟩ := fq_from hR p
  obtain ⟨fl, fg, fc, lo, hi, pt, bt⟩ := u
  unfold wpX_countBetween
  dsimp only
  exact a2 _ ⟨257, fq_cnt12 hR p.toInt q hp 256 0 r rfl (fq_CI_0 a1)⟩
theorem fq_sel15 {fl fg fc : Int32} {lo hi pt bt : Nat → Int32} {T : Nat → Bool} (hR : fq_R (fl, fg, fc, lo, hi, pt, bt) T) {kk : Nat} (hkk : kk < 2 ^ 31) : ∀ (d i : Nat) (x : Int32), i + d = 256 → i ≤ kk → ((∃ y : Nat, y < 256 ∧ x = nI y ∧ T y = true ∧ fq_n T y = i) ∨ (x = -1 ∧ fq_n T 256 ≤ i)) → ∃ r : Int32, fq_Sel T kk r ∧ ∀ post : Int32 → Prop, post r → wX_select_15 post (nI kk) fl fg fc lo hi pt bt (d + 1) x (nI i) := by
  intro d
  induction d with
  | zero =>
    intro i x hi' hik h
    rcases h with ⟨y, h1, h2, h3, h4⟩ | ⟨h1, h2⟩
    · have := fq_n_le (T := T) y
      omega
    · refine ⟨-1, Or.inr ⟨fun y hy e => ?_, rfl⟩, fun post hp => ?_⟩
      · have := fq_n_lt e hy
        omega
      · subst h1
        exact pk_le kk i (fun _ => hp) (fun _ => br_t fq_neg hp)
  | succ d ih =>
    intro i x hi' hik h
    rcases h with ⟨y, h1, h2, h3, h4⟩ | ⟨h1, h2⟩
    · subst h2
      by_cases e : kk ≤ i
      · exact ⟨nI y, Or.inl ⟨y, h1, h3, by omega, rfl⟩, fun post hp => br_t (nI_le e (by omega)) hp⟩
      · obtain ⟨r, a1, a2⟩ := fq_after hR (nI y)
        rw [nI_toInt (by omega)] at a1
        obtain ⟨r', b1, b2⟩ := ih (i + 1) r (by omega) (by omega) (by
          rcases a1 with ⟨w, c1, c2, c3, c4, c5⟩ | ⟨c1, c2⟩
          · refine Or.inl ⟨w, c1, c5, c2, ?_⟩
            rw [fq_n_gap (j := y + 1) (by omega) fun z k1 k2 => fq_nt fun t => by
              have := c4 z (by omega) t (by omega)
              omega, fq_n_t h3, h4]
          · refine Or.inr ⟨c2, ?_⟩
            rw [fq_n_gap (j := y + 1) (by omega) fun z k1 k2 => fq_nt fun t => c1 z k2 t (by omega), fq_n_t h3, h4]
            exact Nat.le_refl _)
        exact ⟨r', b1, fun post hp => br_f (nI_ge (by omega) (by omega)) (br_f (nI_pos (by omega)) (a2 _ (nm_r (nI_1 i) (b2 post hp))))⟩
    · refine ⟨-1, Or.inr ⟨fun y hy e => ?_, rfl⟩, fun post hp => ?_⟩
      · have := fq_n_lt e hy
        omega
      · subst h1
        exact pk_le kk i (fun _ => hp) (fun _ => br_t fq_neg hp)
theorem fq_xselect {u : SX} {T : Nat → Bool} (hR : fq_R u T) (p : Int32) : ∃ r : Int32, fq_Sel T p.toInt r ∧ ∀ post : Int32 → Prop, post r → wpX_select post u p := by
  obtain ⟨fl, fg, fc, lo, hi, pt, bt, rfl, hc, hQ⟩ := id hR
  by_cases h : 0 ≤ p
  · obtain ⟨kk, hkk, rfl⟩ : ∃ x : Nat, x < 2 ^ 31 ∧ p = nI x := nI_of (by
      rw [Int32.le_iff_toInt_le, Int32.toInt_zero] at h
      rw [Int32.lt_iff_toInt_lt, Int32.toInt_zero]
      omega)
    rw [nI_toInt hkk]
    obtain ⟨r, a1, a2⟩ := fq_sel15 hR hkk 256 0 fl rfl (Nat.zero_le _) (by
      rcases fq_flA hQ (show (-1 : Int) < 0 by decide) with ⟨w, c1, c2, c3, c4, c5⟩ | ⟨c1, c2⟩
      · refine Or.inl ⟨w, c1, c5, c2, fq_n_0 fun z hz => fq_nt fun t => ?_⟩
        have := c4 z (by omega) t (by omega)
        omega
      · refine Or.inr ⟨c2, ?_⟩
        rw [fq_n_0 fun z hz => fq_nt fun t => c1 z hz t (by omega)]
        exact Nat.le_refl _)
    refine ⟨r, a1, fun post hp => ?_⟩
    unfold wpX_select
    dsimp only
    exact br_t h ⟨257, a2 post hp⟩
  · have h' := h
    rw [Int32.le_iff_toInt_le, Int32.toInt_zero] at h'
    refine ⟨-1, Or.inr ⟨fun y hy e => by omega, rfl⟩, fun post hp => ?_⟩
    unfold wpX_select
    dsimp only
    refine br_f h ⟨1, br_t ?_ hp⟩
    rw [Int32.le_iff_toInt_le, Int32.toInt_zero]
    omega
theorem fq_gap12 {fl fg fc : Int32} {lo hi pt bt : Nat → Int32} {a : SY} (hR : fq_R (fl, fg, fc, lo, hi, pt, bt) (fq_T a)) : ∀ d i : Nat, i + d = 256 → ∃ r : Int32, (∀ post : Int32 → Prop, post r → wX_gapFrom_12 post fl fg fc lo hi pt bt (d + 1) (nI i)) ∧ (∀ post : Int32 → Prop, post r → wY_gapFrom_2 post a (d + 1) (nI i)) := by
  intro d
  induction d with
  | zero =>
    intro i hi'
    have e : i = 256 := by omega
    subst e
    refine ⟨-1, fun post hp => ?_, fun post hp => ?_⟩
    · refine br_t (fq_ge256 rfl) ?_
      unfold wX_gapFrom_33
      exact br_t (fq_ge256 rfl) hp
    · rw [wY_gapFrom_2]
      exact fq_num_out (Or.inr (nI_le (Nat.le_refl _) (by decide))) (br_t rfl hp)
  | succ d ih =>
    intro i hi'
    have hn : ¬ (256 : Int32) ≤ nI i := fq_lt256 (by omega)
    have hx : i < 256 := by omega
    cases hT : fq_T a i
    · refine ⟨nI i, fun post hp => br_f hn (fq_mem hR hx _ ?_), fun post hp => ?_⟩
      · rw [hT]
        refine br_t rfl ?_
        unfold wX_gapFrom_33
        exact br_f hn hp
      · rw [wY_gapFrom_2]
        refine fq_num hx (br_f (by decide) ⟨vp_in_nI hx (by decide), ?_⟩)
        rw [nI_clamp (by omega)]
        exact br_t (fq_T_z hT) hp
    · obtain ⟨r, a1, a2⟩ := ih (i + 1) (by omega)
      refine ⟨r, fun post hp => br_f hn (fq_mem hR hx _ ?_), fun post hp => ?_⟩
      · rw [hT]
        exact br_f (by decide) (nm_r (nI_1 i) (a1 post hp))
      · rw [wY_gapFrom_2]
        refine fq_num hx (br_f (by decide) ⟨vp_in_nI hx (by decide), ?_⟩)
        rw [nI_clamp (by omega)]
        exact br_f (fq_T_n hT) (nm_r (nI_1 i) (a2 post hp))
theorem fq_gap {u : SX} {a : SY} (hR : fq_R u (fq_T a)) (p : Int32) : ∃ r : Int32, (∀ post : Int32 → Prop, post r → wpX_gapFrom post u p) ∧ (∀ post : Int32 → Prop, post r → wpY_gapFrom post a p) := by
  obtain ⟨fl, fg, fc, lo, hi, pt, bt, rfl, hc, hQ⟩ := id hR
  rcases pk_ix p (n := 256) (by decide) with h | h | ⟨x, hx, rfl⟩
  · refine ⟨-1, fun post hp => ?_, fun post hp => Exists.intro 1 ?_⟩
    · unfold wpX_gapFrom
      dsimp only
      refine br_f (Int32.not_le.mpr h) ⟨1, br_t (by decide) ?_⟩
      unfold wX_gapFrom_33
      exact br_t (by decide) hp
    · rw [wY_gapFrom_2]
      exact fq_num_out (Or.inl h) (br_t rfl hp)
  · refine ⟨-1, fun post hp => ?_, fun post hp => Exists.intro 1 ?_⟩
    · unfold wpX_gapFrom
      dsimp only
      refine br_t (Int32.not_lt.mp (fq_p0 h)) ⟨1, br_t (fq_256 h) ?_⟩
      unfold wX_gapFrom_33
      exact br_t (fq_256 h) hp
    · rw [wY_gapFrom_2]
      exact fq_num_out (Or.inr h) (br_t rfl hp)
  · obtain ⟨r, a1, a2⟩ := fq_gap12 hR (256 - x) x (by omega)
    refine ⟨r, fun post hp => ?_, fun post hp => Exists.intro _ (a2 post hp)⟩
    unfold wpX_gapFrom
    dsimp only
    exact br_t (nI_pos' (by omega)) ⟨_, a1 post hp⟩
/-- T without its members from a to b that lie below y -/
def fq_cut (T : Nat → Bool) (a b : Int) (y : Nat) : Nat → Bool := fun z => T z && !(fq_btw T a b z && decide (z < y))
theorem fq_cut_ge {T : Nat → Bool} {a b : Int} {y z : Nat} (h : y ≤ z) : fq_cut T a b y z = T z := by
  unfold fq_cut; rw [decide_eq_false (Nat.not_lt.mpr h)]; cases T z <;> cases fq_btw T a b z <;> rfl
theorem fq_cut_lt {T : Nat → Bool} {a b : Int} {y z : Nat} (h : z < y) : fq_cut T a b y z = fq_rest T a b z := by
  unfold fq_cut fq_btw fq_rest
  rw [decide_eq_true h]
  cases T z <;> cases decide (a ≤ (z : Int)) <;> cases decide ((z : Int) ≤ b) <;> rfl
def fq_DI (T : Nat → Bool) (a b : Int) (k : Nat) (x : Int32) (S : Nat → Bool) : Prop :=
  (∃ y : Nat, y < 256 ∧ x = nI y ∧ T y = true ∧ a ≤ y ∧ k = fq_n (fq_btw T a b) y ∧ ∀ z, z < 256 → S z = fq_cut T a b y z) ∨ (x = -1 ∧ k = fq_n (fq_btw T a b) 256 ∧ ∀ z, z < 256 → S z = fq_rest T a b z)
theorem fq_DI_s {T S : Nat → Bool} {a b : Int} {y : Nat} {r : Int32} (hy : y < 256) (hT : T y = true) (ha : a ≤ y) (hb : (y : Int) ≤ b) (hS : ∀ z, z < 256 → S z = fq_cut T a b y z) (h : fq_Aft 256 T y r) : fq_DI T a b (fq_n (fq_btw T a b) y + 1) r (fq_wo S y) := by
  have hlo : ∀ z, z < 256 → z ≤ y → fq_wo S y z = fq_rest T a b z := by
    intro z hz h1
    by_cases e : z = y
    · subst e; rw [fq_wo_l, fq_rest_f ha hb]
    · rw [fq_wo_e e, hS z hz, fq_cut_lt (by omega)]
  have hhi : ∀ z, z < 256 → y < z → fq_wo S y z = T z := by
    intro z hz h1
    rw [fq_wo_e (by omega), hS z hz, fq_cut_ge (by omega)]
  rcases fq_CI_s hy hT ha hb h with ⟨w, c1, c2, c3, c4, c5⟩ | ⟨c1, c2⟩
  · rcases h with ⟨w', a1, a2, a3, a4, a5⟩ | ⟨a1, a2⟩
    · have e : w = w' := (nI_eq (by omega) (by omega)).mp (c2.symm.trans a5)
      subst e
      refine Or.inl ⟨w, c1, c2, c3, c4, c5, fun z hz => ?_⟩
      by_cases k1 : z ≤ y
      · rw [hlo z hz k1, fq_cut_lt (by omega)]
      · rw [hhi z hz (by omega)]
        by_cases k2 : z < w
        · have hf : T z = false := fq_nt fun e => by
            have := a4 z hz e (by omega)
            omega
          rw [fq_cut_lt k2, hf, fq_rest_T hf]
        · rw [fq_cut_ge (by omega)]
    · exact (fq_neI (x := w) (by omega) (a2.symm.trans c2)).elim
  · rcases h with ⟨w', a1, a2, a3, a4, a5⟩ | ⟨a1, a2⟩
    · exact (fq_neI (x := w') (by omega) (c1.symm.trans a5)).elim
    · refine Or.inr ⟨c1, c2, fun z hz => ?_⟩
      by_cases k1 : z ≤ y
      · exact hlo z hz k1
      · have hf : T z = false := fq_nt fun e => a1 z hz e (by omega)
        rw [hhi z hz (by omega), hf, fq_rest_T hf]
theorem fq_del12 (T : Nat → Bool) (a : Int) (q : Int32) : ∀ (d k : Nat) (x fl fg fc : Int32) (lo hi pt bt : Nat → Int32) (S : Nat → Bool), k + d = 256 → fq_R (fl, fg, fc, lo, hi, pt, bt) S → fq_DI T a q.toInt k x S → ∃ u' : SX, fq_R u' (fq_rest T a q.toInt) ∧ ∀ post : Int32 → SX → Prop, post (nI (fq_n (fq_btw T a q.toInt) 256)) u' → wX_deleteBetween_12 post q (d + 1) (nI k) x (nI k) fl fg fc lo hi pt bt := by
  intro d
  induction d with
  | zero =>
    intro k x fl fg fc lo hi pt bt S hk hR h
    rcases h with ⟨y, h1, h2, h3, h4, h5, h6⟩ | ⟨h1, h2, h3⟩
    · have := fq_n_le (T := fq_btw T a q.toInt) y
      omega
    · subst h2
      exact ⟨_, fq_R_c h3 hR, fun post hp => br_t (fq_ge256 (by omega)) hp⟩
  | succ d ih =>
    intro k x fl fg fc lo hi pt bt S hk hR h
    have hn : ¬ (256 : Int32) ≤ nI k := fq_lt256 (by omega)
    rcases h with ⟨y, h1, h2, h3, h4, h5, h6⟩ | ⟨h1, h2, h3⟩
    · subst h2
      by_cases w : q < nI y
      · have w' := w
        rw [Int32.lt_iff_toInt_lt, nI_toInt (by omega)] at w'
        refine ⟨_, fq_R_c (fun z hz => ?_) hR, fun post hp => br_f hn (br_f (nI_pos (by omega)) (br_t w ?_))⟩
        · rw [h6 z hz]
          by_cases k1 : z < y
          · exact fq_cut_lt k1
          · rw [fq_cut_ge (by omega), fq_rest_b (by omega)]
        · rw [h5, fq_CI_e h1 w']
          exact hp
      · have w' := w
        rw [Int32.lt_iff_toInt_lt, nI_toInt (by omega)] at w'
        obtain ⟨u1, b1, b2⟩ := fq_delete_yes hR h1 (by rw [h6 y h1, fq_cut_ge (Nat.le_refl _)]; exact h3)
        obtain ⟨r, a1, a2⟩ := fq_after b1 (nI y)
        rw [nI_toInt (by omega)] at a1
        have a1 := fq_Aft_c (S' := T) (fun z hz hzy => by rw [fq_wo_e (by omega), h6 z hz, fq_cut_ge (by omega)]) a1
        have c := fq_DI_s (b := q.toInt) h1 h3 h4 (by omega) h6 a1
        rw [← h5] at c
        obtain ⟨fl1, fg1, fc1, lo1, hi1, pt1, bt1⟩ := u1
        obtain ⟨u', d1, d2⟩ := ih (k + 1) r fl1 fg1 fc1 lo1 hi1 pt1 bt1 _ (by omega) b1 c
        refine ⟨u', d1, fun post hp => br_f hn (br_f (nI_pos (by omega)) (br_f w (b2 _ ?_)))⟩
        exact nm_r (nI_1 k) (a2 _ (nm_r (nI_1 k) (d2 post hp)))
    · subst h1 h2
      exact ⟨_, fq_R_c h3 hR, fun post hp => br_f hn (br_t fq_neg hp)⟩
theorem fq_xdelB {u : SX} {T : Nat → Bool} (hR : fq_R u T) (p q : Int32) : ∃ u' : SX, fq_R u' (fq_rest T p.toInt q.toInt) ∧ ∀ post : Int32 → SX → Prop, post (nI (fq_n (fq_btw T p.toInt q.toInt) 256)) u' → wpX_deleteBetween post u p q := by
  obtain ⟨r, a1, a2⟩ := fq_from hR p
  obtain ⟨fl, fg, fc, lo, hi, pt, bt⟩ := u
  obtain ⟨u', b1, b2⟩ := fq_del12 T p.toInt q 256 0 r fl fg fc lo hi pt bt T rfl hR (by
    have c := fq_CI_0 (b := q.toInt) a1
    rcases c with ⟨w, c1, c2, c3, c4, c5⟩ | ⟨c1, c2⟩
    · refine Or.inl ⟨w, c1, c2, c3, c4, c5, fun z hz => ?_⟩
      by_cases k1 : z < w
      · rw [fq_cut_lt k1]
        by_cases k2 : p.toInt ≤ z
        · have hf : T z = false := fq_nt fun e => by
            rcases a1 with ⟨w', e1, e2, e3, e4, e5⟩ | ⟨e1, e2⟩
            · have ew : w = w' := (nI_eq (by omega) (by omega)).mp (c2.symm.trans e5)
              have := e4 z hz e (by omega)
              omega
            · exact e1 z hz e (by omega)
          rw [hf, fq_rest_T hf]
        · rw [fq_rest_a k2]
      · rw [fq_cut_ge (by omega)]
    · refine Or.inr ⟨c1, c2, fun z hz => ?_⟩
      by_cases k2 : p.toInt ≤ z
      · have hf : T z = false := fq_nt fun e => by
          rcases a1 with ⟨w', e1, e2, e3, e4, e5⟩ | ⟨e1, e2⟩
          · exact fq_neI (x := w') (by omega) (c1.symm.trans e5)
          · exact e1 z hz e (by omega)
        rw [hf, fq_rest_T hf]
      · rw [fq_rest_a k2])
  refine ⟨u', b1, fun post hp => ?_⟩
  unfold wpX_deleteBetween
  dsimp only
  exact a2 _ ⟨257, b2 post hp⟩
end
section
/-- the relation: X's state holds the set that the reference's array holds -/
def i_Rel (k : Nat) (u : SX) (v : SY) : Prop := fq_R u (fq_T v)
theorem i_up {k : Nat} {u : SX} {v : SY} (h : i_Rel k u v) : i_Rel (k + 3) u v := h
theorem fq_init48 (pt bt : Nat → Int32) : ∀ (d i : Nat) (lo hi : Nat → Int32), i + d = 17 → (∀ j, j < i → lo j = -1 ∧ hi j = -1) → ∃ lo' hi' : Nat → Int32, (∀ j, j < 17 → lo' j = -1 ∧ hi' j = -1) ∧ ∀ post : SX → Prop, post (-1, -1, 0, lo', hi', pt, bt) → wX_init_48 post (-1) (-1) 0 (d + 1) (nI i) lo hi pt bt := by
  intro d
  induction d with
  | zero =>
    intro i lo hi hi' h
    have e : i = 17 := by omega
    subst e
    exact ⟨lo, hi, h, fun post hp => br_t (by decide) hp⟩
  | succ d ih =>
    intro i lo hi hi' h
    obtain ⟨lo', hi2, h1, h2⟩ := ih (i + 1) (upd lo i (-1)) (upd hi i (-1)) (by omega) (fun j hj => by
      by_cases e : j = i
      · subst e; exact ⟨pk_us, pk_us⟩
      · rw [pk_un e, pk_un e]; exact h j (by omega))
    refine ⟨lo', hi2, h1, fun post hp => br_f (nI_nlt (a := 16) (by omega) (by decide)) ⟨vp_in_nI (by omega) (by decide), ?_⟩⟩
    rw [nI_clamp (by omega), fq_bm']
    exact nm_e ⟨vp_in_nI (by omega) (by decide), nm_e (nm_r (nI_1 i) (h2 post hp))⟩
theorem fq_P0 (c : Nat) : fq_P (fun _ => 0) (fun _ => 0) c (fun _ => false) := ⟨rfl, fun _ _ => rfl⟩
theorem i_vc0 : wpX_init (fun u => wpY_init (fun v => i_Rel 0 u v)) := by
  obtain ⟨lo', hi', h1, h2⟩ := fq_init48 (fun _ => 0) (fun _ => 0) 17 0 (fun _ => 0) (fun _ => 0) rfl (fun j hj => by omega)
  refine Exists.intro 18 (h2 _ ?_)
  unfold wpY_init
  have hT : ∀ j, fq_T (fun _ => 0) j = false := fun j => fq_T_f rfl
  refine ⟨_, _, _, _, _, _, _, rfl, ?_, Or.inl ⟨fun x _ => hT x, rfl, rfl, fun c hc => Or.inl ⟨fun x hx => rfl, (h1 c (by omega)).1, (h1 c (by omega)).2, fq_P0 c⟩, Or.inl ⟨fun x hx => fq_nz_f fun _ _ => rfl, (h1 16 (by omega)).1, (h1 16 (by omega)).2, fq_P0 16⟩⟩⟩
  rw [fq_n_0 fun j _ => hT j]
  rfl
theorem i_vc_insert {k : Nat} {u : SX} {v : SY} (I : i_Rel k u v) (hk : k + 3 ≤ 1536) (v1 : Int32) : wpX_insert (fun r u' => wpY_insert (fun r' v' => r' = r ∧ i_Rel (k + 3) u' v') v v1) u v1 := by
  rcases pk_ix v1 (n := 256) (by decide) with h | h | ⟨x, hx, rfl⟩
  · exact fq_insert_out (Or.inl h) _ (fq_yins_out (Or.inl h) _ ⟨rfl, I⟩)
  · exact fq_insert_out (Or.inr h) _ (fq_yins_out (Or.inr h) _ ⟨rfl, I⟩)
  · cases hT : fq_T v x
    · obtain ⟨u', a1, a2⟩ := fq_insert_new I hx hT
      exact a2 _ (fq_yins_new hx hT _ ⟨rfl, fq_R_c (fun z hz => fq_T_u1.symm) a1⟩)
    · exact fq_insert_in I hx hT _ (fq_yins_in hx hT _ ⟨rfl, I⟩)
theorem i_vc_delete {k : Nat} {u : SX} {v : SY} (I : i_Rel k u v) (hk : k + 3 ≤ 1536) (v1 : Int32) : wpX_delete (fun r u' => wpY_delete (fun r' v' => r' = r ∧ i_Rel (k + 3) u' v') v v1) u v1 := by
  rcases pk_ix v1 (n := 256) (by decide) with h | h | ⟨x, hx, rfl⟩
  · exact fq_delete_out (Or.inl h) _ (fq_ydel_out (Or.inl h) _ ⟨rfl, I⟩)
  · exact fq_delete_out (Or.inr h) _ (fq_ydel_out (Or.inr h) _ ⟨rfl, I⟩)
  · cases hT : fq_T v x
    · exact fq_delete_no I hx hT _ (fq_ydel_no hx hT _ ⟨rfl, I⟩)
    · obtain ⟨u', a1, a2⟩ := fq_delete_yes I hx hT
      exact a2 _ (fq_ydel_yes hx hT _ ⟨rfl, fq_R_c (fun z hz => fq_T_u0.symm) a1⟩)
theorem i_vc_member {k : Nat} {u : SX} {v : SY} (I : i_Rel k u v) (hk : k + 3 ≤ 1536) (v1 : Int32) : wpX_member (fun r => wpY_member (fun r' => r' = r ∧ i_Rel (k + 3) u v) v v1) u v1 := by
  rcases pk_ix v1 (n := 256) (by decide) with h | h | ⟨x, hx, rfl⟩
  · exact fq_mem_out (Or.inl h) _ (fq_ymem_out (Or.inl h) _ ⟨rfl, I⟩)
  · exact fq_mem_out (Or.inr h) _ (fq_ymem_out (Or.inr h) _ ⟨rfl, I⟩)
  · exact fq_mem I hx _ (fq_ymem hx _ ⟨rfl, I⟩)
theorem i_vc_size {k : Nat} {u : SX} {v : SY} (I : i_Rel k u v) (hk : k + 3 ≤ 1536) : wpX_size (fun r => wpY_size (fun r' => r' = r ∧ i_Rel (k + 3) u v) v) u := by
  obtain ⟨fl, fg, fc, lo, hi, pt, bt, rfl, hc, hQ⟩ := id I
  unfold wpX_size
  dsimp only
  unfold wpY_size
  refine fq_ycount v 0 255 _ ⟨?_, I⟩
  rw [hc]
  refine congrArg nI (fq_n_c fun j hj => ?_)
  rw [show (0 : Int32).toInt = 0 by decide, show (255 : Int32).toInt = 255 by decide]
  cases hT : fq_T v j
  · exact fq_btw_T hT
  · exact fq_btw_t hT (by omega) (by omega)
theorem i_vc_least {k : Nat} {u : SX} {v : SY} (I : i_Rel k u v) (hk : k + 3 ≤ 1536) : wpX_least (fun r => wpY_least (fun r' => r' = r ∧ i_Rel (k + 3) u v) v) u := by
  obtain ⟨fl, fg, fc, lo, hi, pt, bt, rfl, hc, hQ⟩ := id I
  unfold wpX_least
  dsimp only
  unfold wpY_least
  obtain ⟨r, a1, a2⟩ := fq_yafter v (-1)
  exact a2 _ ⟨fq_Aft_u (fq_flA hQ (by rw [fq_m1]; decide)) a1, I⟩
theorem i_vc_greatest {k : Nat} {u : SX} {v : SY} (I : i_Rel k u v) (hk : k + 3 ≤ 1536) : wpX_greatest (fun r => wpY_greatest (fun r' => r' = r ∧ i_Rel (k + 3) u v) v) u := by
  obtain ⟨fl, fg, fc, lo, hi, pt, bt, rfl, hc, hQ⟩ := id I
  unfold wpX_greatest
  dsimp only
  unfold wpY_greatest
  obtain ⟨r, a1, a2⟩ := fq_ybefore v 256
  exact a2 _ ⟨fq_Bef_u (fq_fgB hQ (by decide)) a1, I⟩
theorem i_vc_after {k : Nat} {u : SX} {v : SY} (I : i_Rel k u v) (hk : k + 3 ≤ 1536) (v1 : Int32) : wpX_after (fun r => wpY_after (fun r' => r' = r ∧ i_Rel (k + 3) u v) v v1) u v1 := by
  obtain ⟨r, a1, a2⟩ := fq_after I v1
  obtain ⟨r', b1, b2⟩ := fq_yafter v v1
  exact a2 _ (b2 _ ⟨fq_Aft_u a1 b1, I⟩)
theorem i_vc_before {k : Nat} {u : SX} {v : SY} (I : i_Rel k u v) (hk : k + 3 ≤ 1536) (v1 : Int32) : wpX_before (fun r => wpY_before (fun r' => r' = r ∧ i_Rel (k + 3) u v) v v1) u v1 := by
  obtain ⟨r, a1, a2⟩ := fq_before I v1
  obtain ⟨r', b1, b2⟩ := fq_ybefore v v1
  exact a2 _ (b2 _ ⟨fq_Bef_u a1 b1, I⟩)
theorem i_vc_takeLeast {k : Nat} {u : SX} {v : SY} (I : i_Rel k u v) (hk : k + 3 ≤ 1536) : wpX_takeLeast (fun r u' => wpY_takeLeast (fun r' v' => r' = r ∧ i_Rel (k + 3) u' v') v) u := by
  obtain ⟨fl, fg, fc, lo, hi, pt, bt, rfl, hc, hQ⟩ := id I
  have hA : fq_Aft 256 (fq_T v) (-1 : Int32).toInt fl := fq_flA hQ (by rw [fq_m1]; decide)
  obtain ⟨r, b1, b2⟩ := fq_yafter v (-1)
  have e : r = fl := fq_Aft_u hA b1
  subst e
  unfold wpX_takeLeast
  dsimp only
  rcases hA with ⟨y, a1, a2, a3, a4, rfl⟩ | ⟨a1, rfl⟩
  · obtain ⟨⟨gl, gg, gc, lo1, hi1, pt1, bt1⟩, c1, c2⟩ := fq_delete_yes I a1 a2
    refine c2 _ (br_f (by decide) ?_)
    unfold wpY_takeLeast wpY_least
    exact b2 _ (fq_ydel_yes a1 a2 _ ⟨rfl, fq_R_c (fun z hz => fq_T_u0.symm) c1⟩)
  · refine fq_delete_out (Or.inl fq_neg) _ (br_t rfl ?_)
    unfold wpY_takeLeast wpY_least
    exact b2 _ (fq_ydel_out (Or.inl fq_neg) _ ⟨rfl, I⟩)
theorem i_vc_takeGreatest {k : Nat} {u : SX} {v : SY} (I : i_Rel k u v) (hk : k + 3 ≤ 1536) : wpX_takeGreatest (fun r u' => wpY_takeGreatest (fun r' v' => r' = r ∧ i_Rel (k + 3) u' v') v) u := by
  obtain ⟨fl, fg, fc, lo, hi, pt, bt, rfl, hc, hQ⟩ := id I
  have hA : fq_Bef 256 (fq_T v) (256 : Int32).toInt fg := fq_fgB hQ (by decide)
  obtain ⟨r, b1, b2⟩ := fq_ybefore v 256
  have e : r = fg := fq_Bef_u hA b1
  subst e
  unfold wpX_takeGreatest
  dsimp only
  rcases hA with ⟨y, a1, a2, a3, a4, rfl⟩ | ⟨a1, rfl⟩
  · obtain ⟨⟨gl, gg, gc, lo1, hi1, pt1, bt1⟩, c1, c2⟩ := fq_delete_yes I a1 a2
    refine c2 _ (br_f (by decide) ?_)
    unfold wpY_takeGreatest wpY_greatest
    exact b2 _ (fq_ydel_yes a1 a2 _ ⟨rfl, fq_R_c (fun z hz => fq_T_u0.symm) c1⟩)
  · refine fq_delete_out (Or.inl fq_neg) _ (br_t rfl ?_)
    unfold wpY_takeGreatest wpY_greatest
    exact b2 _ (fq_ydel_out (Or.inl fq_neg) _ ⟨rfl, I⟩)
theorem i_vc_countBetween {k : Nat} {u : SX} {v : SY} (I : i_Rel k u v) (hk : k + 3 ≤ 1536) (v1 : Int32) (v2 : Int32) : wpX_countBetween (fun r => wpY_countBetween (fun r' => r' = r ∧ i_Rel (k + 3) u v) v v1 v2) u v1 v2 :=
  fq_xcount I v1 v2 _ (fq_ycount v v1 v2 _ ⟨rfl, I⟩)
theorem i_vc_select {k : Nat} {u : SX} {v : SY} (I : i_Rel k u v) (hk : k + 3 ≤ 1536) (v1 : Int32) : wpX_select (fun r => wpY_select (fun r' => r' = r ∧ i_Rel (k + 3) u v) v v1) u v1 := by
  obtain ⟨r, a1, a2⟩ := fq_xselect I v1
  obtain ⟨r', b1, b2⟩ := fq_yselect v v1
  exact a2 _ (b2 _ ⟨fq_Sel_u a1 b1, I⟩)
theorem i_vc_gapFrom {k : Nat} {u : SX} {v : SY} (I : i_Rel k u v) (hk : k + 3 ≤ 1536) (v1 : Int32) : wpX_gapFrom (fun r => wpY_gapFrom (fun r' => r' = r ∧ i_Rel (k + 3) u v) v v1) u v1 := by
  obtain ⟨r, a1, a2⟩ := fq_gap I v1
  exact a1 _ (a2 _ ⟨rfl, I⟩)
theorem i_vc_deleteBetween {k : Nat} {u : SX} {v : SY} (I : i_Rel k u v) (hk : k + 3 ≤ 1536) (v1 : Int32) (v2 : Int32) : wpX_deleteBetween (fun r u' => wpY_deleteBetween (fun r' v' => r' = r ∧ i_Rel (k + 3) u' v') v v1 v2) u v1 v2 := by
  obtain ⟨u', a1, a2⟩ := fq_xdelB I v1 v2
  obtain ⟨b, b1, b2⟩ := fq_ydelB v v1 v2
  exact a2 _ (b2 _ ⟨rfl, fq_R_c (fun z hz => (b1 z hz).symm) a1⟩)
theorem i_vc_nearest {k : Nat} {u : SX} {v : SY} (I : i_Rel k u v) (hk : k + 3 ≤ 1536) (v1 : Int32) : wpX_nearest (fun r => wpY_nearest (fun r' => r' = r ∧ i_Rel (k + 3) u v) v v1) u v1 := by
  obtain ⟨r, a1, a2⟩ := fq_xnear I v1
  exact a2 _ (fq_ynear v v1 _ fun r' b1 => ⟨fq_Near_u a1 b1, I⟩)
end
