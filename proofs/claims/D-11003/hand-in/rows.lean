section
/-! Int32 by its bits (these rows began as the family 'bt' of laws/BITS.to-paste) -/
def gb_bt (x : Int32) (i : Nat) : Bool := x.toBitVec.getLsbD i
theorem gb_ext {x y : Int32} (h : ∀ i, i < 32 → gb_bt x i = gb_bt y i) : x = y := Int32.toBitVec_inj.mp (BitVec.eq_of_getLsbD_eq (fun i hi => h i hi))
theorem gb_bor (x y : Int32) (i : Nat) : gb_bt (x ||| y) i = (gb_bt x i || gb_bt y i) := by unfold gb_bt; rw [Int32.toBitVec_or, BitVec.getLsbD_or]
theorem gb_band (x y : Int32) (i : Nat) : gb_bt (x &&& y) i = (gb_bt x i && gb_bt y i) := by unfold gb_bt; rw [Int32.toBitVec_and, BitVec.getLsbD_and]
theorem gb_bxor (x y : Int32) (i : Nat) : gb_bt (x ^^^ y) i = (gb_bt x i ^^ gb_bt y i) := by unfold gb_bt; rw [Int32.toBitVec_xor, BitVec.getLsbD_xor]
theorem gb_b0 (i : Nat) : gb_bt 0 i = false := BitVec.getLsbD_zero
theorem gb_su : ∀ n, n < 32 → (((nI n).toUInt32 &&& Int32.toUInt32 31).toBitVec % 32).toNat = n := by decide +kernel
theorem gb_ushr (n : Nat) (hn : n < 32) (x : Int32) (i : Nat) : gb_bt ((x.toUInt32 >>> ((nI n).toUInt32 &&& Int32.toUInt32 31)).toInt32) i = gb_bt x (n + i) := by
  show (x.toUInt32 >>> ((nI n).toUInt32 &&& Int32.toUInt32 31)).toBitVec.getLsbD i = x.toUInt32.toBitVec.getLsbD (n + i)
  rw [UInt32.toBitVec_shiftRight]
  show (x.toUInt32.toBitVec >>> (((nI n).toUInt32 &&& Int32.toUInt32 31).toBitVec % 32).toNat).getLsbD i = _
  rw [gb_su n hn, BitVec.getLsbD_ushiftRight]
theorem gb_b1 : ∀ i, i < 32 → gb_bt 1 i = decide (i = 0) := by decide +kernel
/-- the bit at place k, as the program takes it -/
theorem gb_bit (x : Int32) {k : Nat} (hk : k < 32) : ((x.toUInt32 >>> ((nI k).toUInt32 &&& Int32.toUInt32 31)).toInt32) &&& 1 = cond (gb_bt x k) 1 0 := by
  apply gb_ext
  intro i hi
  rw [gb_band, gb_ushr k hk, gb_b1 i hi]
  by_cases e : i = 0
  · subst e
    rw [Nat.add_zero]
    cases gb_bt x k
    · rw [Bool.false_and]; exact (gb_b0 0).symm
    · exact (gb_b1 0 (by omega)).symm
  · rw [decide_eq_false e, Bool.and_false]
    cases gb_bt x k
    · exact (gb_b0 i).symm
    · show false = gb_bt 1 i
      rw [gb_b1 i hi, decide_eq_false e]
theorem gb_bit1 (x : Int32) {k : Nat} (hk : k < 32) : ((x.toUInt32 >>> ((nI k).toUInt32 &&& Int32.toUInt32 31)).toInt32) &&& 1 = 1 ↔ gb_bt x k = true := by
  rw [gb_bit x hk]
  cases gb_bt x k
  · exact ⟨fun h => absurd h (by decide), fun h => absurd h (by decide)⟩
  · exact ⟨fun _ => rfl, fun _ => rfl⟩
theorem gb_bit0 (x : Int32) {k : Nat} (hk : k < 32) : ((x.toUInt32 >>> ((nI k).toUInt32 &&& Int32.toUInt32 31)).toInt32) &&& 1 = 0 ↔ gb_bt x k = false := by
  rw [gb_bit x hk]
  cases gb_bt x k
  · exact ⟨fun _ => rfl, fun _ => rfl⟩
  · exact ⟨fun h => absurd h (by decide), fun h => absurd h (by decide)⟩
/-! the pure picture -/
/-- the monomial at a place, the place of a monomial -/
def gb_Ml : List Nat := [0, 1, 2, 4, 8, 16, 3, 5, 6, 9, 10, 12, 17, 18, 20, 24, 7, 11, 13, 14, 19, 21, 22, 25, 26, 28, 15, 23, 27, 29, 30, 31]
def gb_Pl : List Nat := [0, 1, 2, 6, 3, 7, 8, 16, 4, 9, 10, 17, 11, 18, 19, 26, 5, 12, 13, 20, 14, 21, 22, 27, 15, 23, 24, 28, 25, 29, 30, 31]
def gb_M (k : Nat) : Nat := gb_Ml.getD k 0
def gb_P (k : Nat) : Nat := gb_Pl.getD k 0
theorem gb_M32 : ∀ k, k < 32 → gb_M k < 32 := by decide +kernel
theorem gb_P32 : ∀ k, k < 32 → gb_P k < 32 := by decide +kernel
theorem gb_MP : ∀ k, k < 32 → gb_M (gb_P k) = k := by decide +kernel
theorem gb_PM : ∀ k, k < 32 → gb_P (gb_M k) = k := by decide +kernel
theorem gb_Pi {a b : Nat} (ha : a < 32) (hb : b < 32) (h : gb_P a = gb_P b) : a = b := by rw [← gb_MP a ha, h, gb_MP b hb]
theorem gb_Mi {a b : Nat} (ha : a < 32) (hb : b < 32) (h : gb_M a = gb_M b) : a = b := by rw [← gb_PM a ha, h, gb_PM b hb]
/-- one bit -/
def gb_o (p : Nat) : Int32 := (1 : Int32) <<< (nI p &&& 31)
/-- c where x has bit k -/
def gb_s (x : Int32) (k : Nat) (c : Int32) : Int32 := cond (gb_bt x k) c 0
/-- the sum (xor) of f below n -/
def gb_fx (f : Nat → Int32) : Nat → Int32
  | 0 => 0
  | n + 1 => gb_fx f n ^^^ f n
/-- a polynomial times a monomial -/
def gb_t (x : Int32) (m : Nat) : Int32 := gb_fx (fun k => gb_s x k (gb_o (gb_P (gb_M k ||| m)))) 32
def gb_io (x : Int32) : Int32 := gb_fx (fun k => gb_s x k (gb_o (gb_P k))) 32
def gb_oo (x : Int32) : Int32 := gb_fx (fun k => gb_s x k (gb_o (gb_M k))) 32
/-- set difference -/
def gb_dn (a l : Nat) : Nat := a - (a &&& l)
/-- what reduce adds at place k, by one polynomial g with the leading monomial l -/
def gb_T (g : Int32) (l k : Nat) : Int32 := if gb_dn l (gb_M k) = 0 then gb_t g (gb_dn (gb_M k) l) else 0
def gb_rd (T : Nat → Int32) : Nat → Int32 → Int32
  | 0, r => r
  | k + 1, r => gb_rd T k (r ^^^ gb_s r k (T k))
def gb_pr (x y : Int32) : Int32 := gb_oo (gb_fx (fun k => gb_s (gb_io x) k (gb_t (gb_io y) (gb_M k))) 32)
def gb_N (g : Int32) (l : Nat) (x : Int32) : Int32 := gb_oo (gb_rd (gb_T g l) 32 (gb_io x))
def gb_hd (x : Int32) : Nat → Nat
  | 0 => 0
  | n + 1 => cond (gb_bt x (n + 1)) (n + 1) (gb_hd x n)
def gb_hi (x : Int32) : Nat := gb_hd x 31
theorem gb_hd_le (x : Int32) : ∀ n, gb_hd x n ≤ n := by
  intro n
  induction n with
  | zero => exact Nat.le_refl 0
  | succ n ih =>
    unfold gb_hd
    cases gb_bt x (n + 1)
    · exact Nat.le_succ_of_le ih
    · exact Nat.le_refl _
theorem gb_hi32 (x : Int32) : gb_hi x < 32 := Nat.lt_succ_of_le (gb_hd_le x 31)
/-! small numbers, by tables -/
theorem gb_or5 : ∀ a, a < 32 → ∀ b, b < 32 → (nI a ||| nI b = nI (a ||| b) ∧ (a ||| b) < 32) := by decide +kernel
theorem gb_dn5 : ∀ a, a < 32 → ∀ b, b < 32 → (nI a &&& (nI b ^^^ (-1)) = nI (gb_dn a b) ∧ gb_dn a b < 32) := by decide +kernel
/-! linear maps over bits -/
theorem gb_x0 (a : Int32) : a ^^^ 0 = a := by
  apply gb_ext; intro i _; rw [gb_bxor, gb_b0, Bool.xor_false]
theorem gb_0x (a : Int32) : 0 ^^^ a = a := by
  apply gb_ext; intro i _; rw [gb_bxor, gb_b0, Bool.false_xor]
theorem gb_xx (a : Int32) : a ^^^ a = 0 := by
  apply gb_ext; intro i _; rw [gb_bxor, gb_b0, Bool.xor_self]
theorem gb_x4 (a b c d : Int32) : (a ^^^ b) ^^^ (c ^^^ d) = (a ^^^ c) ^^^ (b ^^^ d) := by
  apply gb_ext
  intro i _
  rw [gb_bxor, gb_bxor, gb_bxor, gb_bxor, gb_bxor, gb_bxor]
  cases gb_bt a i <;> cases gb_bt b i <;> cases gb_bt c i <;> cases gb_bt d i <;> rfl
theorem gb_sx (x y : Int32) (k : Nat) (c : Int32) : gb_s (x ^^^ y) k c = gb_s x k c ^^^ gb_s y k c := by
  unfold gb_s
  rw [gb_bxor]
  cases gb_bt x k <;> cases gb_bt y k
  · exact (gb_x0 0).symm
  · exact (gb_0x c).symm
  · exact (gb_x0 c).symm
  · exact (gb_xx c).symm
theorem gb_sc (x : Int32) (k : Nat) (c d : Int32) : gb_s x k (c ^^^ d) = gb_s x k c ^^^ gb_s x k d := by
  unfold gb_s
  cases gb_bt x k
  · exact (gb_x0 0).symm
  · rfl
theorem gb_fxx (f g : Nat → Int32) : ∀ n, gb_fx (fun k => f k ^^^ g k) n = gb_fx f n ^^^ gb_fx g n := by
  intro n
  induction n with
  | zero => exact (gb_x0 0).symm
  | succ n ih =>
    show gb_fx (fun k => f k ^^^ g k) n ^^^ (f n ^^^ g n) = (gb_fx f n ^^^ f n) ^^^ (gb_fx g n ^^^ g n)
    rw [ih, gb_x4]
theorem gb_fxc {f g : Nat → Int32} : ∀ n, (∀ k, k < n → f k = g k) → gb_fx f n = gb_fx g n := by
  intro n
  induction n with
  | zero => intro _; rfl
  | succ n ih =>
    intro h
    show gb_fx f n ^^^ f n = gb_fx g n ^^^ g n
    rw [ih (fun k hk => h k (by omega)), h n (by omega)]
def gb_lin (F : Int32 → Int32) : Prop := ∀ x y, F (x ^^^ y) = F x ^^^ F y
theorem gb_lin0 {F : Int32 → Int32} (h : gb_lin F) : F 0 = 0 := by
  have e := h 0 0
  rw [gb_xx, gb_xx] at e
  exact e
theorem gb_linc {F G : Int32 → Int32} (hF : gb_lin F) (hG : gb_lin G) : gb_lin (fun x => F (G x)) := by
  intro x y
  show F (G (x ^^^ y)) = F (G x) ^^^ F (G y)
  rw [hG, hF]
theorem gb_linx {F G : Int32 → Int32} (hF : gb_lin F) (hG : gb_lin G) : gb_lin (fun x => F x ^^^ G x) := by
  intro x y
  show F (x ^^^ y) ^^^ G (x ^^^ y) = (F x ^^^ G x) ^^^ (F y ^^^ G y)
  rw [hG, hF, gb_x4]
theorem gb_lini : gb_lin (fun x => x) := fun _ _ => rfl
theorem gb_linz : gb_lin (fun _ => 0) := fun _ _ => (gb_x0 0).symm
theorem gb_linf (c : Nat → Int32) (n : Nat) : gb_lin (fun x => gb_fx (fun k => gb_s x k (c k)) n) := by
  intro x y
  show gb_fx (fun k => gb_s (x ^^^ y) k (c k)) n = gb_fx (fun k => gb_s x k (c k)) n ^^^ gb_fx (fun k => gb_s y k (c k)) n
  rw [← gb_fxx]
  exact gb_fxc n (fun k _ => gb_sx x y k (c k))
theorem gb_lint (m : Nat) : gb_lin (fun x => gb_t x m) := gb_linf (fun k => gb_o (gb_P (gb_M k ||| m))) 32
theorem gb_linio : gb_lin gb_io := gb_linf (fun k => gb_o (gb_P k)) 32
theorem gb_linoo : gb_lin gb_oo := gb_linf (fun k => gb_o (gb_M k)) 32
theorem gb_linrd (T : Nat → Int32) : ∀ n, gb_lin (gb_rd T n) := by
  intro n
  induction n with
  | zero => exact fun _ _ => rfl
  | succ n ih =>
    intro x y
    show gb_rd T n ((x ^^^ y) ^^^ gb_s (x ^^^ y) n (T n)) = gb_rd T n (x ^^^ gb_s x n (T n)) ^^^ gb_rd T n (y ^^^ gb_s y n (T n))
    rw [gb_sx, gb_x4, ih]
theorem gb_linN (g : Int32) (l : Nat) : gb_lin (gb_N g l) := gb_linc (F := gb_oo) (G := fun x => gb_rd (gb_T g l) 32 (gb_io x)) gb_linoo (gb_linc (gb_linrd (gb_T g l) 32) gb_linio)
theorem gb_linpr (x : Int32) : gb_lin (gb_pr x) := by
  intro y z
  show gb_oo (gb_fx (fun k => gb_s (gb_io x) k (gb_t (gb_io (y ^^^ z)) (gb_M k))) 32) = gb_oo (gb_fx (fun k => gb_s (gb_io x) k (gb_t (gb_io y) (gb_M k))) 32) ^^^ gb_oo (gb_fx (fun k => gb_s (gb_io x) k (gb_t (gb_io z) (gb_M k))) 32)
  rw [← gb_linoo, ← gb_fxx]
  refine congrArg gb_oo (gb_fxc 32 (fun k _ => ?_))
  show gb_s (gb_io x) k (gb_t (gb_io (y ^^^ z)) (gb_M k)) = gb_s (gb_io x) k (gb_t (gb_io y) (gb_M k)) ^^^ gb_s (gb_io x) k (gb_t (gb_io z) (gb_M k))
  rw [gb_linio, ← gb_sc]
  exact congrArg (gb_s (gb_io x) k) (gb_lint (gb_M k) (gb_io y) (gb_io z))
theorem gb_bo : ∀ p, p < 32 → ∀ i, i < 32 → gb_bt (gb_o p) i = decide (p = i) := by decide +kernel
theorem gb_bs (x : Int32) {k p i : Nat} (hp : p < 32) (hi : i < 32) : gb_bt (gb_s x k (gb_o p)) i = (gb_bt x k && decide (p = i)) := by
  unfold gb_s
  cases gb_bt x k
  · rw [Bool.false_and]; exact gb_b0 i
  · rw [Bool.true_and]; exact gb_bo p hp i hi
theorem gb_all (x : Int32) : gb_fx (fun k => gb_s x k (gb_o k)) 32 = x := by
  have key : ∀ n, n ≤ 32 → ∀ i, i < 32 → gb_bt (gb_fx (fun k => gb_s x k (gb_o k)) n) i = (decide (i < n) && gb_bt x i) := by
    intro n
    induction n with
    | zero =>
      intro _ i _
      rw [decide_eq_false (Nat.not_lt_zero i), Bool.false_and]
      exact gb_b0 i
    | succ n ih =>
      intro hn i hi
      show gb_bt (gb_fx (fun k => gb_s x k (gb_o k)) n ^^^ gb_s x n (gb_o n)) i = _
      rw [gb_bxor, ih (by omega) i hi, gb_bs x (by omega) hi]
      by_cases e : n = i
      · subst e
        rw [decide_eq_false (Nat.lt_irrefl n), decide_eq_true (Nat.lt_succ_self n), decide_eq_true rfl, Bool.false_and, Bool.false_xor, Bool.true_and, Bool.and_true]
      · rw [decide_eq_false e, Bool.and_false, Bool.xor_false]
        by_cases e2 : i < n
        · rw [decide_eq_true e2, decide_eq_true (show i < n + 1 by omega)]
        · rw [decide_eq_false e2, decide_eq_false (show ¬ i < n + 1 by omega)]
  apply gb_ext
  intro i hi
  rw [key 32 (Nat.le_refl 32) i hi, decide_eq_true hi, Bool.true_and]
theorem gb_linfx {F : Int32 → Int32} (h : gb_lin F) (f : Nat → Int32) : ∀ n, F (gb_fx f n) = gb_fx (fun k => F (f k)) n := by
  intro n
  induction n with
  | zero => exact gb_lin0 h
  | succ n ih =>
    show F (gb_fx f n ^^^ f n) = gb_fx (fun k => F (f k)) n ^^^ F (f n)
    rw [h, ih]
theorem gb_lins {F : Int32 → Int32} (h : gb_lin F) (x : Int32) (k : Nat) (c : Int32) : F (gb_s x k c) = gb_s x k (F c) := by
  unfold gb_s
  cases gb_bt x k
  · exact gb_lin0 h
  · rfl
/-- two linear maps that agree on the 32 single bits agree -/
theorem gb_line {F G : Int32 → Int32} (hF : gb_lin F) (hG : gb_lin G) (h : ∀ k, k < 32 → F (gb_o k) = G (gb_o k)) (x : Int32) : F x = G x := by
  have e : F (gb_fx (fun k => gb_s x k (gb_o k)) 32) = G (gb_fx (fun k => gb_s x k (gb_o k)) 32) := by
    rw [gb_linfx hF, gb_linfx hG]
    refine gb_fxc 32 (fun k hk => ?_)
    show F (gb_s x k (gb_o k)) = G (gb_s x k (gb_o k))
    rw [gb_lins hF, gb_lins hG, h k hk]
  rw [gb_all] at e
  exact e
/-! or is xor where the bit is free -/
theorem gb_dis {r : Int32} {x : Int32} {k p : Nat} (hp : p < 32) (h : gb_bt r p = false) : r ||| gb_s x k (gb_o p) = r ^^^ gb_s x k (gb_o p) := by
  apply gb_ext
  intro i hi
  rw [gb_bor, gb_bxor, gb_bs x hp hi]
  by_cases e : p = i
  · subst e
    rw [h, Bool.false_or, Bool.false_xor]
  · rw [decide_eq_false e, Bool.and_false, Bool.or_false, Bool.xor_false]
theorem gb_free (x : Int32) (Q : Nat → Nat) (hQ : ∀ k, k < 32 → Q k < 32) {p : Nat} (hp : p < 32) : ∀ n, n ≤ 32 → (∀ k, k < n → Q k ≠ p) → gb_bt (gb_fx (fun k => gb_s x k (gb_o (Q k))) n) p = false := by
  intro n
  induction n with
  | zero => intro _ _; exact gb_b0 p
  | succ n ih =>
    intro hn h
    show gb_bt (gb_fx (fun k => gb_s x k (gb_o (Q k))) n ^^^ gb_s x n (gb_o (Q n))) p = false
    rw [gb_bxor, ih (by omega) (fun k hk => h k (by omega)), gb_bs x (hQ n (by omega)) hp, decide_eq_false (h n (by omega)), Bool.and_false]
    rfl
theorem gb_orx (x : Int32) (Q : Nat → Nat) (hQ : ∀ k, k < 32 → Q k < 32) (hi : ∀ a b, a < 32 → b < 32 → Q a = Q b → a = b) {n : Nat} (hn : n < 32) :
    gb_fx (fun k => gb_s x k (gb_o (Q k))) n ||| gb_s x n (gb_o (Q n)) = gb_fx (fun k => gb_s x k (gb_o (Q k))) (n + 1) :=
  gb_dis (hQ n hn) (gb_free x Q hQ (hQ n hn) n (by omega) (fun k hk e => absurd (hi k n (by omega) hn e) (by omega)))
theorem gb_z5 : ∀ p, p < 32 → (0 : Int32) <<< (nI p &&& 31) = 0 := by decide +kernel
/-- the bit, shifted -/
theorem gb_bsh (x : Int32) {k p : Nat} (hk : k < 32) (hp : p < 32) : (((x.toUInt32 >>> ((nI k).toUInt32 &&& Int32.toUInt32 31)).toInt32) &&& 1) <<< (nI p &&& 31) = gb_s x k (gb_o p) := by
  rw [gb_bit x hk]
  unfold gb_s
  cases gb_bt x k
  · exact gb_z5 p hp
  · rfl
end
section
section
variable {kd ws : Int32} {a1 a2 a3 a4 a5 a6 a7 a8 a9 : Nat → Int32}
/-- the two tables that arrange lays -/
def gb_tab (a3 a4 : Nat → Int32) : Prop := (∀ k, k < 32 → a3 k = nI (gb_P k)) ∧ (∀ k, k < 32 → a4 k = nI (gb_M k))
theorem gb_st {x : Int32} {k : Nat} {c : Int32} (h : gb_bt x k = true) : gb_s x k c = c := by
  unfold gb_s; rw [h]; rfl
theorem gb_sf {x : Int32} {k : Nat} {c : Int32} (h : ¬ gb_bt x k = true) : gb_s x k c = 0 := by
  unfold gb_s; rw [Bool.eq_false_iff.mpr h]; rfl
theorem gb_dvd {a b : Nat} (ha : a < 32) (hb : b < 32) : nI a &&& (nI b ^^^ (-1)) = 0 ↔ gb_dn a b = 0 := by
  have h := gb_dn5 a ha b hb
  have h2 := h.2
  rw [h.1, ← nI_0, nI_eq (by omega) (by omega)]
theorem gb_cl1 : (1 : Int32).toNatClampNeg = 1 := by decide
theorem gb_e8 : ((8 * 1) + 0 : Int32).toNatClampNeg = 8 := by decide
theorem gb_e32 : ((32 * 1) + 0 : Int32).toNatClampNeg = 32 := by decide
theorem gb_highest {post : Int32 → Prop} {x : Int32} (H : post (nI (gb_hi x))) : wpX_highest post () x := by
  show ∃ n, wX_highest_3 post x n 31
  refine ⟨32, pk_loopD (σ := Unit) (fun n i _ => wX_highest_3 post x n (nI i)) (fun i _ => i < 32 ∧ post (nI (gb_hd x i))) (fun n _ h => ?_) (fun n i _ h hw => ?_) 31 () ⟨by omega, H⟩⟩
  · exact pk_le 0 0 (fun _ => h.2) (fun z => absurd z (by omega))
  · obtain ⟨hi, h⟩ := h
    show wX_highest_3 post x (n + 1) (nI (i + 1))
    refine pk_le (i + 1) 0 (fun z => absurd z (by omega)) (fun _ => ek_if (gb_bit0 x hi) (fun hb => nm_r (pk_m1 i) (hw () ⟨by omega, ?_⟩)) (fun hb => ?_))
    · have e : gb_hd x (i + 1) = gb_hd x i := by
        show cond (gb_bt x (i + 1)) (i + 1) (gb_hd x i) = gb_hd x i
        rw [hb]; rfl
      rw [e] at h
      exact h
    · have e : gb_hd x (i + 1) = i + 1 := by
        show cond (gb_bt x (i + 1)) (i + 1) (gb_hd x i) = i + 1
        rw [show gb_bt x (i + 1) = true from by cases hx : gb_bt x (i + 1) <;> first | rfl | exact absurd hx hb]; rfl
      rw [e] at h
      exact h
theorem gb_times {post : Int32 → Prop} (ht : gb_tab a3 a4) {x : Int32} {m : Nat} (hm : m < 32) (H : post (gb_t x m)) : wpX_times post (kd, ws, a1, a2, a3, a4, a5, a6, a7, a8, a9) x (nI m) := by
  show ∃ n, wX_times_5 post x (nI m) kd ws a1 a2 a3 a4 a5 a6 a7 a8 a9 n 0 0
  refine pk_loop (fun n i s => wX_times_5 post x (nI m) kd ws a1 a2 a3 a4 a5 a6 a7 a8 a9 n s (nI i)) (fun i s => s = gb_fx (fun k => gb_s x k (gb_o (gb_P (gb_M k ||| m)))) i) 32 0 0 (by omega) rfl (fun n s h => ?_) (fun n i s hi h hw => ?_)
  · refine pk_le 32 32 (fun _ => ?_) (fun z => absurd z (by omega))
    rw [h]
    exact H
  · have e4 : a4 (nI i).toNatClampNeg ||| nI m = nI (gb_M i ||| m) := by
      rw [nI_clamp (by omega), ht.2 i hi]
      exact (gb_or5 _ (gb_M32 i hi) m hm).1
    have l4 : (gb_M i ||| m) < 32 := (gb_or5 _ (gb_M32 i hi) m hm).2
    refine pk_le 32 i (fun z => absurd z (by omega)) (fun _ => ek_if (gb_bit1 x hi) (fun hb => ⟨pk_in i 32 hi, ?_, nm_r (e' := s ^^^ gb_o (gb_P (gb_M i ||| m))) ?_ (nm_r (nI_1 i) (hw _ ?_))⟩) (fun hb => nm_r (nI_1 i) (hw _ ?_)))
    · rw [e4]
      exact pk_in _ 32 l4
    · rw [e4, nI_clamp (by omega), ht.1 _ l4]
      rfl
    · show s ^^^ gb_o (gb_P (gb_M i ||| m)) = gb_fx (fun k => gb_s x k (gb_o (gb_P (gb_M k ||| m)))) i ^^^ gb_s x i (gb_o (gb_P (gb_M i ||| m)))
      rw [h, gb_st hb]
    · show s = gb_fx (fun k => gb_s x k (gb_o (gb_P (gb_M k ||| m)))) i ^^^ gb_s x i (gb_o (gb_P (gb_M i ||| m)))
      rw [gb_sf hb, gb_x0]
      exact h
theorem gb_inOrder {post : Int32 → Prop} (ht : gb_tab a3 a4) {x : Int32} (H : post (gb_io x)) : wpX_inOrder post (kd, ws, a1, a2, a3, a4, a5, a6, a7, a8, a9) x := by
  show ∃ n, wX_inOrder_4 post x kd ws a1 a2 a3 a4 a5 a6 a7 a8 a9 n 0 0
  refine pk_loop (fun n i s => wX_inOrder_4 post x kd ws a1 a2 a3 a4 a5 a6 a7 a8 a9 n s (nI i)) (fun i s => s = gb_fx (fun k => gb_s x k (gb_o (gb_P k))) i) 32 0 0 (by omega) rfl (fun n s h => ?_) (fun n i s hi h hw => ?_)
  · refine pk_le 32 32 (fun _ => ?_) (fun z => absurd z (by omega))
    rw [h]
    exact H
  · refine pk_le 32 i (fun z => absurd z (by omega)) (fun _ => ⟨pk_in i 32 hi, nm_r (e' := gb_fx (fun k => gb_s x k (gb_o (gb_P k))) (i + 1)) ?_ (nm_r (nI_1 i) (hw _ rfl))⟩)
    rw [nI_clamp (by omega), ht.1 i hi, gb_bsh x hi (gb_P32 i hi), h]
    exact gb_orx x gb_P gb_P32 (fun a b ha hb e => gb_Pi ha hb e) hi
theorem gb_outOrder {post : Int32 → Prop} (ht : gb_tab a3 a4) {x : Int32} (H : post (gb_oo x)) : wpX_outOfOrder post (kd, ws, a1, a2, a3, a4, a5, a6, a7, a8, a9) x := by
  show ∃ n, wX_outOfOrder_4 post x kd ws a1 a2 a3 a4 a5 a6 a7 a8 a9 n 0 0
  refine pk_loop (fun n i s => wX_outOfOrder_4 post x kd ws a1 a2 a3 a4 a5 a6 a7 a8 a9 n s (nI i)) (fun i s => s = gb_fx (fun k => gb_s x k (gb_o (gb_M k))) i) 32 0 0 (by omega) rfl (fun n s h => ?_) (fun n i s hi h hw => ?_)
  · refine pk_le 32 32 (fun _ => ?_) (fun z => absurd z (by omega))
    rw [h]
    exact H
  · refine pk_le 32 i (fun z => absurd z (by omega)) (fun _ => ⟨pk_in i 32 hi, nm_r (e' := gb_fx (fun k => gb_s x k (gb_o (gb_M k))) (i + 1)) ?_ (nm_r (nI_1 i) (hw _ rfl))⟩)
    rw [nI_clamp (by omega), ht.2 i hi, gb_bsh x hi (gb_M32 i hi), h]
    exact gb_orx x gb_M gb_M32 (fun a b ha hb e => gb_Mi ha hb e) hi
/-- reduce by an empty list -/
theorem gb_reduce0 {post : Int32 → Prop} {x : Int32} (H : post x) : wpX_reduce post (kd, nI 0, a1, a2, a3, a4, a5, a6, a7, a8, a9) x := by
  show ∃ n, wX_reduce_5 post kd (nI 0) a1 a2 a3 a4 a5 a6 a7 a8 a9 n x 31
  have key : wX_reduce_5 post kd (nI 0) a1 a2 a3 a4 a5 a6 a7 a8 a9 33 x (nI (31 + 1) + (-1)) := by
    refine pk_loopD (σ := Unit) (fun n i _ => wX_reduce_5 post kd (nI 0) a1 a2 a3 a4 a5 a6 a7 a8 a9 n x (nI i + (-1))) (fun i _ => i ≤ 32) (fun n _ h => ?_) (fun n i _ h hw => ?_) 32 () (by omega)
    · exact br_t (by decide) H
    · show wX_reduce_5 post kd (nI 0) a1 a2 a3 a4 a5 a6 a7 a8 a9 (n + 1) x (nI (i + 1) + (-1))
      rw [pk_m1]
      exact pk_lt i 0 (fun z => absurd z (by omega)) (fun _ => ⟨1, pk_le 0 0 (fun _ => nm_e (hw () (by omega))) (fun z => absurd z (by omega))⟩)
  rw [pk_m1] at key
  exact ⟨33, key⟩
/-- reduce by one polynomial g, its leading monomial l -/
theorem gb_reduce1 {post : Int32 → Prop} (ht : gb_tab a3 a4) {g x : Int32} {l : Nat} (hl : l < 32) (h5 : a5 0 = g) (h6 : a6 0 = nI l) (H : post (gb_rd (gb_T g l) 32 x)) : wpX_reduce post (kd, nI 1, a1, a2, a3, a4, a5, a6, a7, a8, a9) x := by
  show ∃ n, wX_reduce_5 post kd (nI 1) a1 a2 a3 a4 a5 a6 a7 a8 a9 n x 31
  have key : wX_reduce_5 post kd (nI 1) a1 a2 a3 a4 a5 a6 a7 a8 a9 33 x (nI (31 + 1) + (-1)) := by
    refine pk_loopD (fun n i s => wX_reduce_5 post kd (nI 1) a1 a2 a3 a4 a5 a6 a7 a8 a9 n s (nI i + (-1))) (fun i s => i ≤ 32 ∧ post (gb_rd (gb_T g l) i s)) (fun n s h => ?_) (fun n i s h hw => ?_) 32 x ⟨by omega, H⟩
    · exact br_t (by decide) h.2
    · obtain ⟨hi, h⟩ := h
      have hi2 : i < 32 := by omega
      have lM := gb_M32 i hi2
      show wX_reduce_5 post kd (nI 1) a1 a2 a3 a4 a5 a6 a7 a8 a9 (n + 1) s (nI (i + 1) + (-1))
      rw [pk_m1]
      refine pk_lt i 0 (fun z => absurd z (by omega)) (fun _ => ⟨2, pk_le 1 0 (fun z => absurd z (by omega)) (fun _ => ek_if (gb_bit1 s hi2) (fun hb => ⟨pk_in 0 40 (by omega), pk_in i 32 hi2, ?_⟩) (fun hb => nm_e (hw s ⟨by omega, ?_⟩)))⟩)
      · rw [sb_cl0, nI_clamp (show i < 2 ^ 31 by omega), h5, h6, ht.2 i hi2, (gb_dn5 _ lM l hl).1]
        refine ek_if (gb_dvd hl lM) (fun hd => ⟨pk_in 0 40 (by omega), pk_in i 32 hi2, pk_in 0 40 (by omega), gb_times ht (gb_dn5 _ lM l hl).2 (nm_e (nm_r (nI_1 0) (pk_le 1 1 (fun _ => nm_e (hw _ ⟨by omega, ?_⟩)) (fun z => absurd z (by omega)))))⟩) (fun hd => nm_r (nI_1 0) (pk_le 1 1 (fun _ => nm_e (hw _ ⟨by omega, ?_⟩)) (fun z => absurd z (by omega))))
        · have e : gb_rd (gb_T g l) (i + 1) s = gb_rd (gb_T g l) i (s ^^^ gb_t g (gb_dn (gb_M i) l)) := by
            show gb_rd (gb_T g l) i (s ^^^ gb_s s i (gb_T g l i)) = _
            rw [gb_st hb, show gb_T g l i = gb_t g (gb_dn (gb_M i) l) from if_pos hd]
          rw [e] at h
          exact h
        · have e : gb_rd (gb_T g l) (i + 1) s = gb_rd (gb_T g l) i s := by
            show gb_rd (gb_T g l) i (s ^^^ gb_s s i (gb_T g l i)) = _
            rw [gb_st hb, show gb_T g l i = 0 from if_neg hd, gb_x0]
          rw [e] at h
          exact h
      · have e : gb_rd (gb_T g l) (i + 1) s = gb_rd (gb_T g l) i s := by
          show gb_rd (gb_T g l) i (s ^^^ gb_s s i (gb_T g l i)) = _
          rw [gb_sf hb, gb_x0]
        rw [e] at h
        exact h
  rw [pk_m1] at key
  exact ⟨33, key⟩
theorem gb_product {post : Int32 → Prop} (ht : gb_tab a3 a4) {x y : Int32} (H : post (gb_pr x y)) : wpX_product post (kd, ws, a1, a2, a3, a4, a5, a6, a7, a8, a9) x y := by
  unfold wpX_product
  refine gb_inOrder ht (gb_inOrder ht ?_)
  refine pk_loop (fun n i s => wX_product_19 post (gb_io x) (gb_io y) kd ws a1 a2 a3 a4 a5 a6 a7 a8 a9 n s (nI i)) (fun i s => s = gb_fx (fun k => gb_s (gb_io x) k (gb_t (gb_io y) (gb_M k))) i) 32 0 0 (by omega) rfl (fun n s h => ?_) (fun n i s hi h hw => ?_)
  · refine pk_le 32 32 (fun _ => gb_outOrder ht ?_) (fun z => absurd z (by omega))
    rw [h]
    exact H
  · refine pk_le 32 i (fun z => absurd z (by omega)) (fun _ => ek_if (gb_bit1 _ hi) (fun hb => ⟨pk_in i 32 hi, ?_⟩) (fun hb => nm_r (nI_1 i) (hw _ ?_)))
    · rw [nI_clamp (by omega), ht.2 i hi]
      refine gb_times ht (gb_M32 i hi) (nm_e (nm_r (nI_1 i) (hw _ ?_)))
      show s ^^^ gb_t (gb_io y) (gb_M i) = gb_fx (fun k => gb_s (gb_io x) k (gb_t (gb_io y) (gb_M k))) i ^^^ gb_s (gb_io x) i (gb_t (gb_io y) (gb_M i))
      rw [h, gb_st hb]
    · show s = gb_fx (fun k => gb_s (gb_io x) k (gb_t (gb_io y) (gb_M k))) i ^^^ gb_s (gb_io x) i (gb_t (gb_io y) (gb_M i))
      rw [gb_sf hb, gb_x0]
      exact h
/-! arrange -/
def gb_pn (m : Nat) : Nat → Nat
  | 0 => 0
  | i + 1 => gb_pn m i + m / 2 ^ i % 2
def gb_pc (m : Nat) : Nat := gb_pn m 5
theorem gb_sb : ∀ m, m < 32 → ∀ i, i < 5 → (nI m >>> (nI i &&& 31)) &&& 1 = nI (m / 2 ^ i % 2) := by decide +kernel
theorem gb_pc6 : ∀ m, m < 32 → gb_pc m < 6 := by decide +kernel
theorem gb_ones {post : Int32 → Prop} {m : Nat} (hm : m < 32) (H : post (nI (gb_pc m))) : wpX_ones post () (nI m) := by
  show ∃ n, wX_ones_4 post (nI m) n 0 0
  refine pk_loop (fun n i s => wX_ones_4 post (nI m) n s (nI i)) (fun i s => s = nI (gb_pn m i)) 5 0 0 (by omega) rfl (fun n s h => ?_) (fun n i s hi h hw => ?_)
  · refine pk_le 5 5 (fun _ => ?_) (fun z => absurd z (by omega))
    rw [h]
    exact H
  · refine pk_le 5 i (fun z => absurd z (by omega)) (fun _ => nm_r (e' := nI (gb_pn m (i + 1))) ?_ (nm_r (nI_1 i) (hw _ rfl)))
    rw [h, gb_sb m hm i hi, nI_add]
    rfl
def gb_cm (d : Nat) : Nat → Nat
  | 0 => 0
  | m + 1 => gb_cm d m + (if gb_pc m = d then 1 else 0)
def gb_cb : Nat → Nat
  | 0 => 0
  | d + 1 => gb_cb d + gb_cm d 32
theorem gb_place : ∀ d, d < 6 → ∀ m, m < 32 → gb_pc m = d → gb_P m = gb_cb d + gb_cm d m := by decide +kernel
theorem gb_cle : ∀ d, d < 6 → ∀ m, m < 33 → gb_cb d + gb_cm d m ≤ 32 := by decide +kernel
theorem gb_cb6 : gb_cb 6 = 32 := by decide +kernel
/-- the tables as far as they are laid -/
def gb_I (c : Nat) (a3 a4 : Nat → Int32) : Prop := (∀ k, k < 32 → gb_P k < c → a3 k = nI (gb_P k)) ∧ (∀ p, p < c → a4 p = nI (gb_M p))
theorem gb_Is {c m : Nat} (hm : m < 32) (hc : gb_P m = c) (h : gb_I c a3 a4) : gb_I (c + 1) (upd a3 m (nI c)) (upd a4 c (nI m)) := by
  refine ⟨fun k hk hl => ?_, fun p hp => ?_⟩
  · by_cases e : k = m
    · rw [e, pk_us, hc]
    · rw [pk_un e]
      refine h.1 k hk ?_
      have ne : gb_P k ≠ c := fun z => e (gb_Pi hk hm (by rw [z, hc]))
      omega
  · by_cases e : p = c
    · rw [e, pk_us, ← hc, gb_MP m hm]
    · rw [pk_un e]
      exact h.2 p (by omega)
theorem gb_arr11 {post : St2 → Prop} {J4 : Int32 → Int32 → (Nat → Int32) → (Nat → Int32) → (Nat → Int32) → (Nat → Int32) → (Nat → Int32) → (Nat → Int32) → (Nat → Int32) → (Nat → Int32) → (Nat → Int32) → Prop} {d : Nat} (hd : d < 6) (h0 : gb_I (gb_cb d) a3 a4)
    (H : ∀ b3 b4, gb_I (gb_cb (d + 1)) b3 b4 → J4 (nI (gb_cb (d + 1))) (nI (d + 1)) a1 a2 b3 b4 a5 a6 a7 a8 a9) : ∃ n, wX_arrange_11 post J4 (nI d) 0 ws n (nI (gb_cb d)) 0 a1 a2 a3 a4 a5 a6 a7 a8 a9 := by
  refine pk_loop (σ := (Nat → Int32) × (Nat → Int32)) (fun n i s => wX_arrange_11 post J4 (nI d) 0 ws n (nI (gb_cb d + gb_cm d i)) (nI i) a1 a2 s.1 s.2 a5 a6 a7 a8 a9) (fun i s => gb_I (gb_cb d + gb_cm d i) s.1 s.2) 32 0 (a3, a4) (by omega) h0 (fun n s h => ?_) (fun n i s hi h hw => ?_)
  · exact pk_le 32 32 (fun _ => nm_r (nI_1 d) (H s.1 s.2 h)) (fun z => absurd z (by omega))
  · show wX_arrange_11 post J4 (nI d) 0 ws (n + 1) (nI (gb_cb d + gb_cm d i)) (nI i) a1 a2 s.1 s.2 a5 a6 a7 a8 a9
    have hp := gb_pc6 i hi
    refine pk_le 32 i (fun z => absurd z (by omega)) (fun _ => br_f (by decide) (gb_ones hi (pk_eq (gb_pc i) d (fun e => ?_) (fun e => nm_r (nI_1 i) ?_))))
    · have ec : gb_cb d + gb_cm d (i + 1) = gb_cb d + gb_cm d i + 1 := by
        show gb_cb d + (gb_cm d i + (if gb_pc i = d then 1 else 0)) = _
        rw [if_pos e]
        rfl
      have le := gb_cle d hd (i + 1) (by omega)
      have pl := gb_place d hd i hi e
      have t : wX_arrange_11 post J4 (nI d) 0 ws n (nI (gb_cb d + gb_cm d (i + 1))) (nI (i + 1)) a1 a2 (upd s.1 i (nI (gb_cb d + gb_cm d i))) (upd s.2 (gb_cb d + gb_cm d i) (nI i)) a5 a6 a7 a8 a9 :=
        hw (upd s.1 i (nI (gb_cb d + gb_cm d i)), upd s.2 (gb_cb d + gb_cm d i) (nI i)) (by
          show gb_I (gb_cb d + gb_cm d (i + 1)) _ _
          rw [ec]
          exact gb_Is hi pl h)
      rw [ec] at t le
      unfold wX_arrange_40
      refine ⟨pk_in i 32 hi, nm_r (e' := upd s.1 i (nI (gb_cb d + gb_cm d i))) (by rw [nI_clamp (by omega)]) ⟨pk_in (gb_cb d + gb_cm d i) 32 (by omega), nm_r (e' := upd s.2 (gb_cb d + gb_cm d i) (nI i)) (by rw [nI_clamp (by omega)]) (nm_r (nI_1 _) (nm_r (nI_1 i) t))⟩⟩
    · have ec : gb_cb d + gb_cm d (i + 1) = gb_cb d + gb_cm d i := by
        show gb_cb d + (gb_cm d i + (if gb_pc i = d then 1 else 0)) = _
        rw [if_neg e]
        rfl
      have t : wX_arrange_11 post J4 (nI d) 0 ws n (nI (gb_cb d + gb_cm d (i + 1))) (nI (i + 1)) a1 a2 s.1 s.2 a5 a6 a7 a8 a9 :=
        hw s (by
          show gb_I (gb_cb d + gb_cm d (i + 1)) _ _
          rw [ec]
          exact h)
      rw [ec] at t
      exact t
theorem gb_arrange {post : St2 → Prop} (H : ∀ b3 b4, gb_tab b3 b4 → post (0, ws, a1, a2, b3, b4, a5, a6, a7, a8, a9)) : wpX_arrange post (0, ws, a1, a2, a3, a4, a5, a6, a7, a8, a9) := by
  show ∃ n, wX_arrange_4 post 0 ws n 0 0 a1 a2 a3 a4 a5 a6 a7 a8 a9
  refine pk_loop (σ := (Nat → Int32) × (Nat → Int32)) (fun n d s => wX_arrange_4 post 0 ws n (nI (gb_cb d)) (nI d) a1 a2 s.1 s.2 a5 a6 a7 a8 a9) (fun d s => gb_I (gb_cb d) s.1 s.2) 6 0 (a3, a4) (by omega) ⟨fun k _ h => absurd h (Nat.not_lt_zero _), fun p h => absurd h (Nat.not_lt_zero _)⟩ (fun n s h => ?_) (fun n d s hd h hw => ?_)
  · have h' : gb_I (gb_cb 6) s.1 s.2 := h
    rw [gb_cb6] at h'
    exact pk_lt 5 6 (fun _ => H s.1 s.2 ⟨fun k hk => h'.1 k hk (gb_P32 k hk), h'.2⟩) (fun z => absurd z (by omega))
  · exact pk_lt 5 d (fun z => absurd z (by omega)) (fun _ => gb_arr11 hd h (fun b3 b4 hb => hw (b3, b4) hb))
theorem gb_init {post : St2 → Prop} {mc ms : Nat} (hc : 9 ≤ mc) (hs : 230 ≤ ms) (H : ∀ b3 b4, gb_tab b3 b4 → post (0, 0, (fun _ => 0), (fun _ => 0), b3, b4, (fun _ => 0), (fun _ => 0), (fun _ => 0), (fun _ => 0), (fun _ => 0))) : wpX_init post mc ms (0, 0) := by
  unfold wpX_init
  exact ⟨by omega, by omega, by omega, by omega, by omega, by omega, by omega, by omega, by omega, by omega, by omega, by omega, by omega, by omega, by omega, by omega, by omega, by omega, gb_arrange H⟩
end
end
section
section
variable {kd ws : Int32} {a1 a2 a3 a4 a5 a6 a7 a8 a9 : Nat → Int32}
theorem gb_ideal {post : Int32 → Prop} (H : post 1) : wpX_isIdeal post () 1 := br_f (by decide) (br_t rfl H)
/-- the first polynomial of the work list -/
theorem gb_enter0 {post : Int32 → St2 → Prop} (ht : gb_tab a3 a4) {x : Int32} (hx : ¬ x = 0) (H : post 1 (kd, nI 1, a1, a2, a3, a4, upd a5 0 x, upd a6 0 (nI (gb_M (gb_hi x))), a7, a8, a9)) : wpX_enter post (kd, nI 0, a1, a2, a3, a4, a5, a6, a7, a8, a9) x := by
  unfold wpX_enter
  have e0 : (nI 0).toNatClampNeg = 0 := nI_clamp (by omega)
  refine gb_reduce0 (br_f hx (br_f (by decide) ⟨pk_in 0 40 (by omega), nm_r (e' := upd a5 0 x) (by rw [e0]) (gb_highest ⟨pk_in _ 32 (gb_hi32 x), pk_in 0 40 (by omega), nm_r (e' := upd a6 0 (nI (gb_M (gb_hi x)))) ?_ (nm_r (nI_1 0) H)⟩)⟩))
  have hh := gb_hi32 x
  rw [e0, nI_clamp (by omega), ht.2 _ hh]
/-- what reduces to 0 isn't entered -/
theorem gb_enter1 {post : Int32 → St2 → Prop} (ht : gb_tab a3 a4) {g x : Int32} {l : Nat} (hl : l < 32) (h5 : a5 0 = g) (h6 : a6 0 = nI l) (hr : gb_rd (gb_T g l) 32 x = 0) (H : post 0 (kd, nI 1, a1, a2, a3, a4, a5, a6, a7, a8, a9)) : wpX_enter post (kd, nI 1, a1, a2, a3, a4, a5, a6, a7, a8, a9) x := by
  unfold wpX_enter
  exact gb_reduce1 ht hl h5 h6 (br_t hr H)
theorem gb_o2 : ∀ i, i < 5 → (1 : Int32) <<< (nI i &&& 31) = nI (2 ^ i) ∧ 2 ^ i < 32 := by decide +kernel
theorem gb_tryV {post : Int32 → St2 → Prop} (ht : gb_tab a3 a4) {g : Int32} {l : Nat} (hl : l < 32) (h5 : a5 0 = g) (h6 : a6 0 = nI l) (hr : ∀ v, v < 5 → (nI l >>> (nI v &&& 31)) &&& 1 = 1 → gb_rd (gb_T g l) 32 (gb_t g (2 ^ v)) = 0) (H : post 0 (kd, nI 1, a1, a2, a3, a4, a5, a6, a7, a8, a9)) : wpX_tryVariables post (kd, nI 1, a1, a2, a3, a4, a5, a6, a7, a8, a9) := by
  show ∃ n, wX_tryVariables_4 post n 0 0 kd (nI 1) a1 a2 a3 a4 a5 a6 a7 a8 a9
  refine ⟨2, pk_le 1 0 (fun z => absurd z (by omega)) (fun _ => ?_)⟩
  refine pk_loop (σ := Unit) (fun n i _ => wX_tryVariables_14 post (wX_tryVariables_4 post 1) 0 n 0 (nI i) kd (nI 1) a1 a2 a3 a4 a5 a6 a7 a8 a9) (fun _ _ => True) 5 0 () (by omega) trivial (fun n _ _ => ?_) (fun n i _ hi _ hw => ?_)
  · exact pk_le 5 5 (fun _ => nm_r (nI_1 0) (pk_le 1 1 (fun _ => ⟨rfl, H⟩) (fun z => absurd z (by omega)))) (fun z => absurd z (by omega))
  · show wX_tryVariables_14 post (wX_tryVariables_4 post 1) 0 (n + 1) 0 (nI i) kd (nI 1) a1 a2 a3 a4 a5 a6 a7 a8 a9
    refine pk_le 5 i (fun z => absurd z (by omega)) (fun _ => ⟨pk_in 0 40 (by omega), ?_⟩)
    rw [sb_cl0, h5, h6, (gb_o2 i hi).1]
    exact br_c (fun hb => ⟨pk_in 0 40 (by omega), gb_times ht (gb_o2 i hi).2 (gb_enter1 ht hl h5 h6 (hr i hi hb) (br_t rfl (br_t rfl (nm_r (nI_1 i) (hw () trivial)))))⟩) (fun _ => nm_r (nI_1 i) (hw () trivial))
theorem gb_tryP {post : Int32 → St2 → Prop} (H : post 0 (kd, nI 1, a1, a2, a3, a4, a5, a6, a7, a8, a9)) : wpX_tryPairs post (kd, nI 1, a1, a2, a3, a4, a5, a6, a7, a8, a9) := by
  show ∃ n, wX_tryPairs_4 post n 0 0 kd (nI 1) a1 a2 a3 a4 a5 a6 a7 a8 a9
  exact ⟨2, pk_le 1 0 (fun z => absurd z (by omega)) (fun _ => ⟨1, pk_le 0 0 (fun _ => nm_r (nI_1 0) (pk_le 1 1 (fun _ => ⟨rfl, H⟩) (fun z => absurd z (by omega)))) (fun z => absurd z (by omega))⟩)⟩
theorem gb_tail {post : Int32 → Prop} (ht : gb_tab a3 a4) {g : Int32} {l : Nat} (hl : l < 32) (h5 : a5 0 = g) (h6 : a6 0 = nI l) (H : post (gb_o (gb_hi g) ||| gb_rd (gb_T g l) 32 (g &&& (gb_o (gb_hi g) ^^^ (-1))))) : wpX_reduceTail post (kd, nI 1, a1, a2, a3, a4, a5, a6, a7, a8, a9) 0 := by
  unfold wpX_reduceTail
  refine ⟨pk_in 0 40 (by omega), ?_⟩
  rw [sb_cl0, h5]
  exact gb_highest (nm_r (e' := gb_o (gb_hi g)) rfl ⟨pk_in 0 40 (by omega), gb_reduce1 ht hl h5 h6 H⟩)
theorem gb_keep {post : St2 → Prop} (ht : gb_tab a3 a4) {g : Int32} {l : Nat} (hl : l < 32) (h5 : a5 0 = g) (h6 : a6 0 = nI l) (hr : gb_o (gb_hi g) ||| gb_rd (gb_T g l) 32 (g &&& (gb_o (gb_hi g) ^^^ (-1))) = g)
    (H : post (kd, nI 1, a1, a2, a3, a4, a5, a6, upd a7 32 g, upd a8 1 1, a9)) : wpX_keepLeast post (kd, nI 1, a1, a2, a3, a4, a5, a6, a7, a8, a9) 1 := by
  show ∃ n, wX_keepLeast_4 post 1 kd (nI 1) n 0 0 a1 a2 a3 a4 a5 a6 a7 a8 a9
  have K : wX_keepLeast_18 post (wX_keepLeast_4 post 1 kd (nI 1) 1) 1 0 0 kd (nI 1) a1 a2 a3 a4 a5 a6 a7 a8 a9 1 1 (nI (0 + 1)) := by
    refine pk_le 1 1 (fun _ => br_f (by decide) (gb_tail ht hl h5 h6 ⟨1, pk_le 0 0 (fun _ => ?_) (fun z => absurd z (by omega))⟩)) (fun z => absurd z (by omega))
    rw [hr]
    unfold wX_keepLeast_159
    exact ⟨pk_in 32 64 (by omega) (by decide), nm_r (e' := upd a7 32 g) (by rw [gb_e32]) (nm_r (nI_1 0) (nm_r (nI_1 0) (pk_le 1 1 (fun _ => ⟨pk_in 1 2 (by omega), nm_r (e' := upd a8 1 1) (by rw [gb_cl1]; rfl) H⟩) (fun z => absurd z (by omega)))))⟩
  refine ⟨2, pk_le 1 0 (fun z => absurd z (by omega)) (fun _ => ⟨2, pk_le 1 0 (fun z => absurd z (by omega)) (fun _ => ⟨pk_in 0 40 (by omega), pk_in 0 40 (by omega), br_c (fun _ => ?_) (fun _ => ?_)⟩)⟩)⟩
  · unfold wX_keepLeast_51
    exact br_f (by decide) (br_t rfl (nm_r (nI_1 0) K))
  · unfold wX_keepLeast_51
    exact br_f (by decide) (br_t rfl (nm_r (nI_1 0) K))
/-- complete, where the basis is there already -/
theorem gb_ready {post : St2 → Prop} (h9 : a9 1 = 1) (H : post (kd, ws, a1, a2, a3, a4, a5, a6, a7, a8, a9)) : wpX_complete post (kd, ws, a1, a2, a3, a4, a5, a6, a7, a8, a9) 1 := by
  unfold wpX_complete
  refine ⟨pk_in 1 2 (by omega), br_f ?_ H⟩
  rw [gb_cl1, h9]
  decide
/-- complete over one generator that is a basis by itself -/
theorem gb_complete0 {post : St2 → Prop} (ht : gb_tab a3 a4) {p g : Int32} {l : Nat} (h1 : a1 8 = p) (h2 : a2 1 = 1) (h9 : a9 1 = 0) (hg : gb_io p = g) (hn : ¬ g = 0) (hm : gb_M (gb_hi g) = l) (hl : l < 32)
    (hv : ∀ v, v < 5 → (nI l >>> (nI v &&& 31)) &&& 1 = 1 → gb_rd (gb_T g l) 32 (gb_t g (2 ^ v)) = 0)
    (hr : gb_o (gb_hi g) ||| gb_rd (gb_T g l) 32 (g &&& (gb_o (gb_hi g) ^^^ (-1))) = g)
    (H : post (kd, nI 1, a1, a2, a3, a4, upd a5 0 g, upd a6 0 (nI l), upd a7 32 g, upd a8 1 1, upd a9 1 1)) : wpX_complete post (kd, ws, a1, a2, a3, a4, a5, a6, a7, a8, a9) 1 := by
  have K : wX_complete_24 post 1 1 (nI (0 + 1)) kd (nI 1) a1 a2 a3 a4 (upd a5 0 g) (upd a6 0 (nI l)) a7 a8 (upd a9 1 1) := by
    refine ⟨pk_in 1 2 (by omega), br_t (by rw [gb_cl1, h2]; decide) ⟨2, ?_⟩⟩
    refine pk_le 40 0 (fun z => absurd z (by omega)) (fun _ => br_f (by decide) (gb_tryV ht hl pk_us pk_us hv (gb_tryP (br_t rfl (br_t rfl (nm_r (nI_1 0) (pk_le 40 1 (fun z => absurd z (by omega)) (fun _ => br_t rfl ?_))))))))
    unfold wX_complete_110
    exact gb_keep ht hl pk_us pk_us hr H
  unfold wpX_complete
  refine ⟨pk_in 1 2 (by omega), br_t (by rw [gb_cl1]; exact h9) ⟨pk_in 1 2 (by omega), nm_r (e' := upd a9 1 1) (by rw [gb_cl1]) ⟨2, pk_in 1 2 (by omega), br_f (by rw [gb_cl1, h2]; decide) ⟨pk_in 8 16 (by omega) (by decide), ?_⟩⟩⟩⟩
  rw [gb_e8, h1]
  refine gb_inOrder ht ?_
  rw [hg]
  refine gb_enter0 ht hn (nm_r (nI_1 0) ?_)
  rw [hm]
  exact K
/-- the normal form, where the basis is g alone -/
theorem gb_normalOf {post : Int32 → St2 → Prop} (ht : gb_tab a3 a4) {g x : Int32} {l : Nat} (h7 : a7 32 = g) (h8 : a8 1 = 1) (h9 : a9 1 = 1) (hm : gb_M (gb_hi g) = l) (hl : l < 32)
    (H : post (gb_N g l x) (kd, nI 1, a1, a2, a3, a4, upd a5 0 g, upd a6 0 (nI l), a7, a8, a9)) : wpX_normalOf post (kd, ws, a1, a2, a3, a4, a5, a6, a7, a8, a9) 1 x := by
  unfold wpX_normalOf
  have hh := gb_hi32 g
  refine gb_ready h9 ⟨pk_in 1 2 (by omega), nm_r (e' := nI 1) (by rw [gb_cl1, h8]; rfl) ⟨2, pk_le 1 0 (fun z => absurd z (by omega)) (fun _ => ⟨pk_in 32 64 (by omega) (by decide), pk_in 0 40 (by omega), nm_r (e' := upd a5 0 g) ?_ ⟨pk_in 0 40 (by omega), ?_⟩⟩)⟩⟩
  · rw [sb_cl0, gb_e32, h7]
  · rw [sb_cl0, pk_us]
    refine gb_highest ⟨pk_in _ 32 hh, pk_in 0 40 (by omega), nm_r (e' := upd a6 0 (nI l)) ?_ (nm_r (nI_1 0) (pk_le 1 1 (fun _ => gb_inOrder ht (gb_reduce1 ht hl pk_us pk_us (gb_outOrder ht H))) (fun z => absurd z (by omega))))⟩
    rw [nI_clamp (by omega), ht.2 _ hh, hm]
/-- how many monomials below m the monomial l doesn't divide -/
def gb_fc (l : Nat) : Nat → Nat
  | 0 => 0
  | m + 1 => gb_fc l m + (if gb_dn l m = 0 then 0 else 1)
theorem gb_free9 {post : Int32 → St2 → Prop} (ht : gb_tab a3 a4) {g : Int32} {l : Nat} (h7 : a7 32 = g) (h8 : a8 1 = 1) (hm : gb_M (gb_hi g) = l) (hl : l < 32) (H : post (nI (gb_fc l 32)) (kd, ws, a1, a2, a3, a4, a5, a6, a7, a8, a9)) : ∃ n, wX_freeMonomials_9 post 1 kd ws a1 a2 a3 a4 a5 a6 a7 a8 a9 n 0 0 := by
  have hh := gb_hi32 g
  refine pk_loop (fun n i s => wX_freeMonomials_9 post 1 kd ws a1 a2 a3 a4 a5 a6 a7 a8 a9 n s (nI i)) (fun i s => s = nI (gb_fc l i)) 32 0 0 (by omega) rfl (fun n s h => ?_) (fun n i s hi h hw => ?_)
  · refine pk_le 32 32 (fun _ => ?_) (fun z => absurd z (by omega))
    rw [h]
    exact H
  · show wX_freeMonomials_9 post 1 kd ws a1 a2 a3 a4 a5 a6 a7 a8 a9 (n + 1) s (nI i)
    have t : wX_freeMonomials_9 post 1 kd ws a1 a2 a3 a4 a5 a6 a7 a8 a9 n (nI (gb_fc l (i + 1))) (nI (i + 1)) := hw _ rfl
    have c1 : a8 (1 : Int32).toNatClampNeg ≤ nI (0 + 1) := by rw [gb_cl1, h8]; decide
    refine pk_le 32 i (fun z => absurd z (by omega)) (fun _ => ⟨2, pk_in 1 2 (by omega), br_f (by rw [gb_cl1, h8]; decide) ⟨pk_in 32 64 (by omega) (by decide), ?_⟩⟩)
    rw [gb_e32, h7]
    refine gb_highest ⟨pk_in _ 32 hh, nm_r (e' := nI l) (by rw [nI_clamp (by omega), ht.2 _ hh, hm]) (br_t rfl ?_)⟩
    refine ek_if (gb_dvd hl hi) (fun hd => nm_r (nI_1 0) ⟨pk_in 1 2 (by omega), br_t c1 (br_f (by decide) (nm_r (e' := nI (gb_fc l (i + 1))) ?_ (nm_r (nI_1 i) t)))⟩) (fun hd => nm_r (nI_1 0) ⟨pk_in 1 2 (by omega), br_t c1 (br_t rfl (nm_r (e' := nI (gb_fc l (i + 1))) ?_ (nm_r (nI_1 i) t)))⟩)
    · rw [h]
      show nI (gb_fc l i) + nI 0 = nI (gb_fc l i + (if gb_dn l i = 0 then 0 else 1))
      rw [if_pos hd, nI_add]
    · rw [h]
      show nI (gb_fc l i) + nI 1 = nI (gb_fc l i + (if gb_dn l i = 0 then 0 else 1))
      rw [if_neg hd, nI_add]
theorem gb_generate {post : Int32 → St2 → Prop} {p : Int32} (h2 : a2 1 = 0) (H : post 1 (kd, ws, upd a1 8 p, upd a2 1 1, a3, a4, a5, a6, a7, a8, upd a9 1 0)) : wpX_generate post (kd, ws, a1, a2, a3, a4, a5, a6, a7, a8, a9) 1 p := by
  unfold wpX_generate
  refine gb_ideal (br_f (by decide) ⟨pk_in 1 2 (by omega), ?_⟩)
  rw [gb_cl1, h2]
  refine br_f (by decide) ⟨pk_in 1 2 (by omega), pk_in 8 16 (by omega) (by decide), nm_r (e' := upd a1 8 p) (by rw [gb_e8]) ⟨pk_in 1 2 (by omega), pk_in 1 2 (by omega), nm_r (e' := upd a2 1 1) (by rw [show (0 : Int32) + 1 = 1 from by decide]) ⟨pk_in 1 2 (by omega), nm_r (e' := upd a9 1 0) rfl ⟨pk_in 1 2 (by omega), ?_⟩⟩⟩⟩
  rw [pk_us]
  exact H
theorem gb_zeros {post : Int32 → St2 → Prop} (ht : gb_tab a3 a4) {p g : Int32} {l : Nat} (h1 : a1 8 = p) (h2 : a2 1 = 1) (h9 : a9 1 = 0) (hg : gb_io p = g) (hn : ¬ g = 0) (hm : gb_M (gb_hi g) = l) (hl : l < 32)
    (hv : ∀ v, v < 5 → (nI l >>> (nI v &&& 31)) &&& 1 = 1 → gb_rd (gb_T g l) 32 (gb_t g (2 ^ v)) = 0)
    (hr : gb_o (gb_hi g) ||| gb_rd (gb_T g l) 32 (g &&& (gb_o (gb_hi g) ^^^ (-1))) = g)
    (H : post (nI (gb_fc l 32)) (kd, nI 1, a1, a2, a3, a4, upd a5 0 g, upd a6 0 (nI l), upd a7 32 g, upd a8 1 1, upd a9 1 1)) : wpX_zeros post (kd, ws, a1, a2, a3, a4, a5, a6, a7, a8, a9) 1 := by
  unfold wpX_zeros
  refine gb_ideal (br_f (by decide) ?_)
  unfold wpX_freeMonomials
  exact gb_complete0 ht h1 h2 h9 hg hn hm hl hv hr (gb_free9 ht pk_us pk_us hm hl H)
theorem gb_basisSize {post : Int32 → St2 → Prop} (h8 : a8 1 = 1) (h9 : a9 1 = 1) (H : post 1 (kd, ws, a1, a2, a3, a4, a5, a6, a7, a8, a9)) : wpX_basisSize post (kd, ws, a1, a2, a3, a4, a5, a6, a7, a8, a9) 1 := by
  unfold wpX_basisSize
  refine gb_ideal (br_f (by decide) (gb_ready h9 ⟨pk_in 1 2 (by omega), ?_⟩))
  rw [gb_cl1, h8]
  exact H
theorem gb_basis {post : Int32 → St2 → Prop} (ht : gb_tab a3 a4) {g : Int32} (h7 : a7 32 = g) (h8 : a8 1 = 1) (h9 : a9 1 = 1) (H : post (gb_oo g) (kd, ws, a1, a2, a3, a4, a5, a6, a7, a8, a9)) : wpX_basis post (kd, ws, a1, a2, a3, a4, a5, a6, a7, a8, a9) 1 0 := by
  unfold wpX_basis
  refine gb_ideal (br_f (by decide) (gb_ready h9 (br_f (by decide) ⟨pk_in 1 2 (by omega), br_f (by rw [gb_cl1, h8]; decide) ⟨pk_in 32 64 (by omega) (by decide), ?_⟩⟩)))
  rw [gb_e32, h7]
  exact gb_outOrder ht H
theorem gb_normal {post : Int32 → St2 → Prop} (ht : gb_tab a3 a4) {g x : Int32} {l : Nat} (h7 : a7 32 = g) (h8 : a8 1 = 1) (h9 : a9 1 = 1) (hm : gb_M (gb_hi g) = l) (hl : l < 32)
    (H : post (gb_N g l x) (kd, nI 1, a1, a2, a3, a4, upd a5 0 g, upd a6 0 (nI l), a7, a8, a9)) : wpX_normal post (kd, ws, a1, a2, a3, a4, a5, a6, a7, a8, a9) 1 x := by
  unfold wpX_normal
  exact gb_ideal (br_f (by decide) (gb_normalOf ht h7 h8 h9 hm hl H))
theorem gb_contains {post : Int32 → St0 → Prop} (ht : gb_tab a3 a4) {g x : Int32} {l : Nat} (h7 : a7 32 = g) (h8 : a8 1 = 1) (h9 : a9 1 = 1) (hm : gb_M (gb_hi g) = l) (hl : l < 32) (hx : gb_N g l x = 0)
    (H : post 1 ()) : wpX_contains post (kd, ws, a1, a2, a3, a4, a5, a6, a7, a8, a9) 1 x := by
  unfold wpX_contains
  exact gb_ideal (br_f (by decide) (gb_normalOf ht h7 h8 h9 hm hl (br_t hx H)))
theorem gb_contains2 {post : Int32 → St2 → Prop} (ht : gb_tab a3 a4) {g x : Int32} {l : Nat} (h7 : a7 32 = g) (h8 : a8 1 = 1) (h9 : a9 1 = 1) (hm : gb_M (gb_hi g) = l) (hl : l < 32) (hx : gb_N g l x = 0)
    (H : post 1 (kd, nI 1, a1, a2, a3, a4, upd a5 0 g, upd a6 0 (nI l), a7, a8, a9)) : wpX_contains_2 post (kd, ws, a1, a2, a3, a4, a5, a6, a7, a8, a9) 1 x := by
  unfold wpX_contains_2
  exact gb_ideal (br_f (by decide) (gb_normalOf ht h7 h8 h9 hm hl (br_t hx H)))
/-- the polynomial that is variable i -/
def gb_L (i : Nat) : Int32 := (1 : Int32) <<< (((1 : Int32) <<< (nI i &&& 31)) &&& 31)
theorem gb_fixed {post : Int32 → St2 → Prop} (ht : gb_tab a3 a4) {g c : Int32} {l j : Nat} (h7 : a7 32 = g) (h8 : a8 1 = 1) (h9 : a9 1 = 1) (hm : gb_M (gb_hi g) = l) (hl : l < 32) (hj : j < 5) (hc : c = 0 ∨ c = 1) {r : Int32} (h1 : gb_N g l (gb_L j ^^^ c) = 0 → r = 1) (h0 : ¬ gb_N g l (gb_L j ^^^ c) = 0 → r = 0)
    (H : post r (kd, nI 1, a1, a2, a3, a4, upd a5 0 g, upd a6 0 (nI l), a7, a8, a9)) : wpX_fixed post (kd, ws, a1, a2, a3, a4, a5, a6, a7, a8, a9) 1 (nI j) c := by
  have K : wX_fixed_33 post 1 (nI j) c kd ws a1 a2 a3 a4 a5 a6 a7 a8 a9 := by
    unfold wX_fixed_33
    refine nm_r (e' := gb_L j ^^^ c) rfl (gb_normalOf ht h7 h8 h9 hm hl (br_c (fun z => ?_) (fun z => ?_)))
    · rw [h1 z] at H
      exact H
    · rw [h0 z] at H
      exact H
  unfold wpX_fixed
  exact gb_ideal (br_f (by decide) (pk_lt j 0 (fun z => absurd z (by omega)) (fun _ => pk_lt j 5 (fun _ => br_c (fun _ => K) (fun n0 => br_c (fun _ => K) (fun n1 => absurd hc (fun z => z.elim n0 n1)))) (fun z => absurd z (by omega)))))
theorem gb_fixedN {post : Int32 → St2 → Prop} {c : Int32} {j : Nat} (hj : j < 5) (c0 : ¬ c = 0) (c1 : ¬ c = 1)
    (H : post (-3) (kd, ws, a1, a2, a3, a4, a5, a6, a7, a8, a9)) : wpX_fixed post (kd, ws, a1, a2, a3, a4, a5, a6, a7, a8, a9) 1 (nI j) c := by
  unfold wpX_fixed
  exact gb_ideal (br_f (by decide) (pk_lt j 0 (fun z => absurd z (by omega)) (fun _ => pk_lt j 5 (fun _ => br_f c0 (br_f c1 H)) (fun z => absurd z (by omega)))))
end
end
section
/-! what is to be computed: over the 10 generators, and over the 32 single bits -/
def gb_G (i v : Nat) : Int32 := gb_io (gb_L i ^^^ nI v)
theorem gb_Gn : ∀ i, i < 5 → ∀ v, v < 2 → ¬ gb_G i v = 0 := by decide +kernel
theorem gb_Gm : ∀ i, i < 5 → ∀ v, v < 2 → gb_M (gb_hi (gb_G i v)) = 2 ^ i := by decide +kernel
theorem gb_l5 : ∀ i, i < 5 → 2 ^ i < 32 := by decide +kernel
theorem gb_Gv : ∀ i, i < 5 → ∀ v, v < 2 → ∀ w, w < 5 → (nI (2 ^ i) >>> (nI w &&& 31)) &&& 1 = 1 → gb_rd (gb_T (gb_G i v) (2 ^ i)) 32 (gb_t (gb_G i v) (2 ^ w)) = 0 := by decide +kernel
theorem gb_Gr : ∀ i, i < 5 → ∀ v, v < 2 → gb_o (gb_hi (gb_G i v)) ||| gb_rd (gb_T (gb_G i v) (2 ^ i)) 32 (gb_G i v &&& (gb_o (gb_hi (gb_G i v)) ^^^ (-1))) = gb_G i v := by decide +kernel
theorem gb_Go : ∀ i, i < 5 → ∀ v, v < 2 → gb_oo (gb_G i v) = gb_L i ^^^ nI v := by decide +kernel
theorem gb_G16 : ∀ i, i < 5 → nI (gb_fc (2 ^ i) 32) = 16 := by decide +kernel
theorem gb_GL : ∀ i, i < 5 → ∀ v, v < 2 → gb_N (gb_G i v) (2 ^ i) (gb_L i) = nI v := by decide +kernel
theorem gb_GF : ∀ i, i < 5 → ∀ v, v < 2 → ∀ j, j < 5 → ∀ c, c < 2 → (gb_N (gb_G i v) (2 ^ i) (gb_L j ^^^ nI c) = 0 ↔ (j = i ∧ c = v)) := by decide +kernel
theorem gb_fA : ∀ i, i < 5 → ∀ k, k < 32 → gb_pr (gb_L i) (gb_pr (gb_L i) (gb_o k)) = gb_pr (gb_L i) (gb_o k) := by decide +kernel
theorem gb_fB : ∀ i, i < 5 → ∀ k, k < 32 → gb_N (gb_G i 0) (2 ^ i) (gb_pr (gb_L i) (gb_o k)) = 0 := by decide +kernel
theorem gb_fC : ∀ i, i < 5 → ∀ k, k < 32 → gb_N (gb_G i 1) (2 ^ i) (gb_pr (gb_L i) (gb_o k) ^^^ gb_o k) = 0 := by decide +kernel
theorem gb_idem {i : Nat} (hi : i < 5) (p : Int32) : gb_pr (gb_L i) (gb_pr (gb_L i) p) = gb_pr (gb_L i) p :=
  gb_line (gb_linc (gb_linpr (gb_L i)) (gb_linpr (gb_L i))) (gb_linpr (gb_L i)) (gb_fA i hi) p
theorem gb_in0 {i : Nat} (hi : i < 5) (p : Int32) : gb_N (gb_G i 0) (2 ^ i) (gb_pr (gb_L i) p) = 0 :=
  gb_line (gb_linc (gb_linN (gb_G i 0) (2 ^ i)) (gb_linpr (gb_L i))) gb_linz (gb_fB i hi) p
theorem gb_in1 {i : Nat} (hi : i < 5) (p : Int32) : gb_N (gb_G i 1) (2 ^ i) (gb_pr (gb_L i) p ^^^ p) = 0 :=
  gb_line (gb_linc (gb_linN (gb_G i 1) (2 ^ i)) (gb_linx (gb_linpr (gb_L i)) gb_lini)) gb_linz (gb_fC i hi) p
end
section
section
variable {kd ws : Int32} {a1 a2 a3 a4 a5 a6 a7 a8 a9 : Nat → Int32}
/-- the object, once its basis stands -/
def gb_R (i v : Nat) (a3 a4 a7 a8 a9 : Nat → Int32) : Prop := gb_tab a3 a4 ∧ a7 32 = gb_G i v ∧ a8 1 = 1 ∧ a9 1 = 1
theorem gb_169 {post : Int32 → St0 → Prop} {mc ms kc ks i v : Nat} {p z : Int32} (hi : i < 5) (hv : v < 2) (R : gb_R i v a3 a4 a7 a8 a9) (H : post 1 ()) :
    wL_lawOf_169 post mc ms p (gb_L i) (nI v) z z kc ks kd ws a1 a2 a3 a4 a5 a6 a7 a8 a9 := by
  obtain ⟨ht, h7, h8, h9⟩ := R
  have hm := gb_Gm i hi v hv
  have hl := gb_l5 i hi
  unfold wL_lawOf_169
  refine br_t rfl (gb_product ht (gb_product ht (br_t (gb_idem hi p) ?_)))
  by_cases e : v = 0
  · subst e
    refine br_t rfl (gb_contains2 ht h7 h8 h9 hm hl (gb_in0 hi p) (br_t rfl ?_))
    unfold wL_lawOf_219
    refine br_f (by decide) ?_
    unfold wL_lawOf_235
    exact gb_contains ht h7 h8 h9 hm hl (by rw [gb_x0]; exact gb_in0 hi p) (br_t rfl H)
  · have e1 : v = 1 := by omega
    subst e1
    refine br_f (by decide) ?_
    unfold wL_lawOf_219
    refine br_t rfl ?_
    unfold wL_lawOf_235
    exact gb_contains ht h7 h8 h9 hm hl (gb_in1 hi p) (br_t rfl H)
theorem gb_145 {post : Int32 → St0 → Prop} {mc ms kc ks i v j c : Nat} {p r : Int32} (hi : i < 5) (hv : v < 2) (hj : j < 5) (hc : c < 2) (R : gb_R i v a3 a4 a7 a8 a9) (h1 : (j = i ∧ c = v) → r = 1) (h0 : ¬ (j = i ∧ c = v) → r = 0) (H : post 1 ()) :
    wL_lawOf_145 post mc ms p (nI c) (nI j) (gb_L i) (nI v) 1 r kc ks kd ws a1 a2 a3 a4 a5 a6 a7 a8 a9 := by
  have R' := R
  obtain ⟨ht, h7, h8, h9⟩ := R
  have hf := gb_GF i hi v hv j hj c hc
  unfold wL_lawOf_145
  refine gb_fixed ht h7 h8 h9 (gb_Gm i hi v hv) (gb_l5 i hi) hj ?_ (fun z => h1 (hf.mp z)) (fun z => h0 (fun y => z (hf.mpr y))) (br_f (by decide) (gb_169 hi hv R' H))
  by_cases e : c = 0
  · subst e
    exact Or.inl rfl
  · have e1 : c = 1 := by omega
    subst e1
    exact Or.inr rfl
theorem gb_145n {post : Int32 → St0 → Prop} {mc ms kc ks i v j : Nat} {c p r : Int32} (hi : i < 5) (hv : v < 2) (hj : j < 5) (c0 : ¬ c = 0) (c1 : ¬ c = 1) (R : gb_R i v a3 a4 a7 a8 a9) (H : post 1 ()) :
    wL_lawOf_145 post mc ms p c (nI j) (gb_L i) (nI v) 0 r kc ks kd ws a1 a2 a3 a4 a5 a6 a7 a8 a9 := by
  unfold wL_lawOf_145
  exact gb_fixedN hj c0 c1 (br_t rfl (gb_169 hi hv R H))
theorem gb_119 {post : Int32 → St0 → Prop} {mc ms kc ks i v j c : Nat} {p : Int32} (hi : i < 5) (hv : v < 2) (hj : j < 5) (hc : c < 2) (R : gb_R i v a3 a4 a7 a8 a9) (H : post 1 ()) :
    wL_lawOf_119 post mc ms p (nI c) (nI i) (nI j) (gb_L i) (nI v) kc ks kd ws a1 a2 a3 a4 a5 a6 a7 a8 a9 := by
  unfold wL_lawOf_119
  unfold wL_lawOf_124
  refine pk_eq j i (fun e => pk_eq c v (fun e2 => gb_145 hi hv hj hc R (fun _ => rfl) (fun z => absurd ⟨e, e2⟩ z) H) (fun e2 => ?_)) (fun e => ?_)
  · unfold wL_lawOf_144
    exact gb_145 hi hv hj hc R (fun z => absurd z.2 e2) (fun _ => rfl) H
  · unfold wL_lawOf_144
    exact gb_145 hi hv hj hc R (fun z => absurd z.1 e) (fun _ => rfl) H
theorem gb_124n {post : Int32 → St0 → Prop} {mc ms kc ks i v j : Nat} {c p : Int32} (hi : i < 5) (hv : v < 2) (hj : j < 5) (c0 : ¬ c = 0) (c1 : ¬ c = 1) (R : gb_R i v a3 a4 a7 a8 a9) (H : post 1 ()) :
    wL_lawOf_124 post mc ms p c (nI i) (nI j) (gb_L i) (nI v) 0 kc ks kd ws a1 a2 a3 a4 a5 a6 a7 a8 a9 := by
  unfold wL_lawOf_124
  refine br_c (fun _ => br_c (fun _ => gb_145n hi hv hj c0 c1 R H) (fun _ => ?_)) (fun _ => ?_)
  · unfold wL_lawOf_144
    exact gb_145n hi hv hj c0 c1 R H
  · unfold wL_lawOf_144
    exact gb_145n hi hv hj c0 c1 R H
end
theorem gb_lawOf {post : Int32 → St0 → Prop} {mc ms : Nat} (hc : 10 ≤ mc) (hs : 241 ≤ ms) (p0 p1 p2 p3 p4 : Int32) (H : post 1 ()) : wpL_lawOf post mc ms () p0 p1 p2 p3 p4 := by
  obtain ⟨ji, hji, ei⟩ := pk_andE p0 3 (m := 7) (by decide)
  obtain ⟨jj, hjj, ej⟩ := pk_andE p3 3 (m := 7) (by decide)
  obtain ⟨v, hv, ev⟩ := pk_andE p1 1 (m := 1) (by decide)
  have hv2 : v < 2 := hv
  have xi : (p0 &&& 7) - (p0 &&& 7) / 5 * 5 = nI (ji % 5) := by
    rw [ei]
    exact pk_rem (d := 5) (by omega) (by decide) (by decide)
  have xj : (p3 &&& 7) - (p3 &&& 7) / 5 * 5 = nI (jj % 5) := by
    rw [ej]
    exact pk_rem (d := 5) (by omega) (by decide) (by decide)
  have hi : ji % 5 < 5 := Nat.mod_lt _ (by omega)
  have hj : jj % 5 < 5 := Nat.mod_lt _ (by omega)
  revert hi hj xi xj
  generalize ji % 5 = i
  generalize jj % 5 = j
  intro xi xj hi hj
  have hm := gb_Gm i hi v hv2
  have hl := gb_l5 i hi
  unfold wpL_lawOf
  refine ⟨by omega, by omega, 9, 230, by omega, by omega, gb_init (by omega) (by omega) (fun b3 b4 ht => ⟨by decide, nm_r xi ⟨by decide, nm_r xj (nm_r (e' := gb_L i) rfl (nm_r ev ?_))⟩⟩)⟩
  refine gb_generate rfl (br_t rfl ?_)
  refine gb_zeros ht pk_us pk_us pk_us (show gb_io (gb_L i ^^^ nI v) = gb_G i v from rfl) (gb_Gn i hi v hv2) hm hl (gb_Gv i hi v hv2) (gb_Gr i hi v hv2) (br_t (gb_G16 i hi) ?_)
  refine gb_basisSize pk_us pk_us (br_t rfl ?_)
  refine gb_basis ht pk_us pk_us pk_us (br_t (gb_Go i hi v hv2) ?_)
  refine gb_normal ht pk_us pk_us pk_us hm hl (br_t (gb_GL i hi v hv2) ?_)
  have R : gb_R i v b3 b4 (upd (fun _ => 0) 32 (gb_G i v)) (upd (fun _ => 0) 1 1) (upd (upd (fun _ => 0) 1 0) 1 1) := ⟨ht, pk_us, pk_us, pk_us⟩
  refine br_c (fun c0 => ?_) (fun c0 => br_c (fun c1 => ?_) (fun c1 => gb_124n hi hv2 hj c0 c1 R H))
  · rw [c0]
    exact gb_119 (c := 0) hi hv2 hj (by omega) R H
  · rw [c1]
    exact gb_119 (c := 1) hi hv2 hj (by omega) R H
theorem gb_cell {post : Int32 → Prop} {L : Nat} {xs : Nat → Int32} (hL : L ≤ 5) {k : Nat} (hk : k < 5) (H : ∀ x, post x) : wpL_cellAt post L xs () (nI k) :=
  pk_le L k (fun _ => H _) (fun z => ⟨pk_in k L z, H _⟩)
theorem i_vc (xs : Nat → Int32) (L : Nat) (hL : L ≤ 5) : wpL_law (fun r => r = 1) L xs := by
  unfold wpL_law
  exact gb_cell (k := 0) hL (by omega) (fun r1 => gb_cell (k := 1) hL (by omega) (fun r2 => gb_cell (k := 2) hL (by omega) (fun r3 => gb_cell (k := 3) hL (by omega) (fun r4 => gb_cell (k := 4) hL (by omega) (fun r5 => ⟨10, 241, by omega, by omega, gb_lawOf (by omega) (by omega) r1 r2 r3 r4 r5 rfl⟩)))))
end
