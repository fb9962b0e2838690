section
/-! Codes: a small number c stands for an int: 0 for -1, k + 1 for k. An array of bytes is packed into one number, a nibble a place; nibble 0 is the int 0, nibble 15 the int -1. -/
def qd_d : Nat → Int32
  | 0 => -1
  | k + 1 => nI k
/-- the code at place i of a packed array -/
def qd_g (A i : Nat) : Nat := Nat.mod (Nat.succ (Nat.div A (Nat.pow 16 i))) 16
/-- the packed array with code c at place i -/
def qd_u : Nat → Nat → Nat → Nat
  | 0, A, c => A / 16 * 16 + (c + 15) % 16
  | i + 1, A, c => qd_u i (A / 16) c * 16 + A % 16
/-- the array that a packed one stands for -/
def qd_f (A : Nat) : Nat → Int32 := fun j => qd_d (qd_g A j)
/-- a case of a number, which also makes the kernel work it out -/
def qd_nc {β : Type} (c : Nat) (z : β) (s : Nat → β) : β :=
  match c with
  | 0 => z
  | k + 1 => s k
def qd_fc {β : Type} (c : Nat) (s : Nat → β) : β := qd_nc c (s 0) (fun k => s (Nat.succ k))
def qd_o {α β : Type} (o : Option α) (s : α → Option β) : Option β :=
  match o with
  | none => none
  | some a => s a
def qd_b {α : Type} (o : Option α) (s : α → Bool) : Bool :=
  match o with
  | none => false
  | some a => s a

/-! reading a run backwards -/
theorem qi_le {α : Type} {x y : Nat} {a b r : α} (h : cond (Nat.ble x y) a b = r) : (x ≤ y ∧ a = r) ∨ (y < x ∧ b = r) := by
  cases e : Nat.ble x y with
  | true => rw [e] at h; exact Or.inl ⟨Nat.le_of_ble_eq_true e, h⟩
  | false =>
    rw [e] at h
    refine Or.inr ⟨?_, h⟩
    rcases Nat.lt_or_ge y x with z | z
    · exact z
    · rw [Nat.ble_eq_true_of_le z] at e
      cases e
theorem qi_eq {α : Type} {x y : Nat} {a b r : α} (h : cond (Nat.beq x y) a b = r) : (x = y ∧ a = r) ∨ (x ≠ y ∧ b = r) := by
  cases e : Nat.beq x y with
  | true => rw [e] at h; exact Or.inl ⟨Nat.eq_of_beq_eq_true e, h⟩
  | false => rw [e] at h; exact Or.inr ⟨Nat.ne_of_beq_eq_false e, h⟩
theorem qi_n {α : Type} {c : Nat} {z r : α} {s : Nat → α} (h : qd_nc c z s = r) : (c = 0 ∧ z = r) ∨ (∃ k, c = k + 1 ∧ s k = r) := by
  cases c with
  | zero => exact Or.inl ⟨rfl, h⟩
  | succ k => exact Or.inr ⟨k, rfl, h⟩
theorem qi_f {α : Type} (c : Nat) (s : Nat → α) : qd_fc c s = s c := by
  cases c <;> rfl
theorem qi_o {α β : Type} {o : Option α} {s : α → Option β} {r : β} (h : qd_o o s = some r) : ∃ a, o = some a ∧ s a = some r := by
  cases o with
  | none => cases h
  | some a => exact ⟨a, rfl, h⟩
theorem qi_b {α : Type} {o : Option α} {s : α → Bool} (h : qd_b o s = true) : ∃ a, o = some a ∧ s a = true := by
  cases o with
  | none => cases h
  | some a => exact ⟨a, rfl, h⟩
theorem qi_E {x y : Nat} {s : Bool} (h : cond (Nat.beq x y) s false = true) : x = y ∧ s = true := by
  rcases qi_eq h with z | ⟨_, z⟩
  · exact z
  · cases z
theorem qi_L {x y : Nat} {s : Bool} (h : cond (Nat.ble x y) s false = true) : x ≤ y ∧ s = true := by
  rcases qi_le h with z | ⟨_, z⟩
  · exact z
  · cases z

/-! codes and ints -/
theorem qn_lt (A i : Nat) : qd_g A i < 16 := Nat.mod_lt _ (by decide)
theorem qn_z : qd_d 0 < 0 := by decide
theorem qn_nz {k : Nat} (h : k < 2 ^ 31) : ¬ qd_d (k + 1) < 0 := nI_pos h
theorem qn_n0 : ¬ 0 ≤ qd_d 0 := by decide
theorem qn_nn {k : Nat} (h : k < 2 ^ 31) : 0 ≤ qd_d (k + 1) := nI_pos' h
theorem qn_inj : ∀ a, a < 16 → ∀ b, b < 16 → qd_d a = qd_d b → a = b := by decide +kernel
theorem qn_leI : ∀ a, a < 16 → ∀ b, b < 16 → (qd_d a ≤ qd_d b ↔ a ≤ b) := by decide +kernel
theorem qn_b8 : ∀ a, a < 16 → (qd_d a).toInt8.toInt32 = qd_d a := by decide +kernel
theorem qn_at {A k : Nat} (h : k < 2 ^ 31) : qd_f A (nI k).toNatClampNeg = qd_d (qd_g A k) := by
  rw [nI_clamp h]; rfl
theorem qn_at1 {A k : Nat} (h : k < 2 ^ 31) : qd_f A (qd_d (k + 1)).toNatClampNeg = qd_d (qd_g A k) := qn_at h

/-! stores -/
theorem qn_raw : ∀ (i A j c : Nat), qd_u i A c / 16 ^ j % 16 = if j = i then (c + 15) % 16 else A / 16 ^ j % 16 := by
  intro i
  induction i with
  | zero =>
    intro A j c
    cases j with
    | zero =>
      rw [if_pos rfl, Nat.pow_zero, Nat.div_one]
      show (A / 16 * 16 + (c + 15) % 16) % 16 = _
      omega
    | succ j =>
      rw [if_neg (by omega), Nat.pow_succ', ← Nat.div_div_eq_div_mul, ← Nat.div_div_eq_div_mul]
      show (A / 16 * 16 + (c + 15) % 16) / 16 / 16 ^ j % 16 = _
      rw [show (A / 16 * 16 + (c + 15) % 16) / 16 = A / 16 by omega]
  | succ i ih =>
    intro A j c
    cases j with
    | zero =>
      rw [if_neg (by omega), Nat.pow_zero, Nat.div_one, Nat.div_one]
      show (qd_u i (A / 16) c * 16 + A % 16) % 16 = _
      omega
    | succ j =>
      rw [Nat.pow_succ', ← Nat.div_div_eq_div_mul, ← Nat.div_div_eq_div_mul]
      show (qd_u i (A / 16) c * 16 + A % 16) / 16 / 16 ^ j % 16 = _
      rw [show (qd_u i (A / 16) c * 16 + A % 16) / 16 = qd_u i (A / 16) c by omega, ih]
      by_cases e : j = i
      · rw [if_pos e, if_pos (by omega)]
      · rw [if_neg e, if_neg (by omega)]
theorem qn_gr (A i : Nat) : qd_g A i = (A / 16 ^ i % 16 + 1) % 16 := by
  show (A / 16 ^ i + 1) % 16 = _
  omega
theorem qn_gu (i A j c : Nat) (hc : c < 16) : qd_g (qd_u i A c) j = if j = i then c else qd_g A j := by
  rw [qn_gr, qn_raw, qn_gr]
  by_cases e : j = i
  · rw [if_pos e, if_pos e]
    omega
  · rw [if_neg e, if_neg e]
theorem qn_upd (i A c : Nat) (hc : c < 16) : upd (qd_f A) i (qd_d c) = qd_f (qd_u i A c) := by
  funext j
  show (if j = i then qd_d c else qd_d (qd_g A j)) = qd_d (qd_g (qd_u i A c) j)
  rw [qn_gu i A j c hc]
  by_cases e : j = i
  · rw [if_pos e, if_pos e]
  · rw [if_neg e, if_neg e]
theorem qn_u {i A c : Nat} (hi : i < 2 ^ 31) (hc : c < 16) : upd (qd_f A) (nI i).toNatClampNeg (qd_d c) = qd_f (qd_u i A c) := by
  rw [nI_clamp hi, qn_upd i A c hc]
theorem qn_u8 {i A c : Nat} (hi : i < 2 ^ 31) (hc : c < 16) : upd (qd_f A) (nI i).toNatClampNeg (qd_d c).toInt8.toInt32 = qd_f (qd_u i A c) := by
  rw [qn_b8 c hc, qn_u hi hc]
theorem qn_f0 : (fun _ => 0 : Nat → Int32) = qd_f 0 := by
  funext j
  show (0 : Int32) = qd_d (qd_g 0 j)
  rw [qn_gr, Nat.zero_div]
  rfl

/-! masks -/
theorem qn_or (a b : Nat) : nI a ||| nI b = nI (a ||| b) := by
  apply Int32.toBitVec_inj.1
  show BitVec.ofNat 32 a ||| BitVec.ofNat 32 b = BitVec.ofNat 32 (a ||| b)
  apply BitVec.eq_of_getLsbD_eq
  intro i hi
  simp [hi]
theorem qn_sh : ∀ k, k < 6 → (1 : Int32) <<< (nI k &&& 31) = nI (2 ^ k) := by decide +kernel
theorem qn_bit {m k : Nat} (h : k < 6) : nI m ||| ((1 : Int32) <<< (nI k &&& 31)) = nI (m ||| 2 ^ k) := by
  rw [qn_sh k h, qn_or]
theorem qn_o0 (m : Nat) : nI m ||| 0 = nI m := by
  rw [← nI_0, qn_or, Nat.or_zero]
theorem qn_p0 (m : Nat) : nI m + 0 = nI m := by
  rw [← nI_0, nI_add, Nat.add_zero]
end
section
/-! the methods over packed arrays: 'none' where the program would leave its arrays, or where nothing is claimed here -/
def qd_lent (A2 A3 A5 t : Nat) : Nat → Nat → Nat → Option Nat
  | 0, _, _ => none
  | n + 1, m, k =>
    cond (Nat.ble 6 k) (some m)
      (qd_nc (qd_g A3 k) (qd_lent A2 A3 A5 t n m (k + 1))
        (fun w => cond (Nat.ble 5 w) none
          (cond (Nat.beq (qd_g A5 w) t)
            (cond (Nat.ble (qd_g A2 k) m) (qd_lent A2 A3 A5 t n m (k + 1)) (qd_lent A2 A3 A5 t n (qd_g A2 k) (k + 1)))
            (qd_lent A2 A3 A5 t n m (k + 1)))))
def qd_ref (A1 A3 A5 : Nat) : Nat → Nat → Nat → Nat → Option Nat
  | 0, _, _, _ => none
  | n + 1, x, k, A2 =>
    cond (Nat.ble 6 k) (some A2)
      (qd_nc x (some A2)
        (fun i => cond (Nat.ble 6 i) none
          (qd_o (qd_lent A2 A3 A5 (i + 1) 7 (qd_g A1 i) 0) (fun r =>
            qd_fc (qd_u i A2 r) (fun B2 =>
              cond (Nat.beq r (qd_g A2 i)) (qd_ref A1 A3 A5 n 0 (k + 1) B2)
                (qd_nc (qd_g A3 i) (qd_ref A1 A3 A5 n 0 (k + 1) B2)
                  (fun w => cond (Nat.ble 5 w) none (qd_ref A1 A3 A5 n (qd_g A5 w) (k + 1) B2))))))))
def qd_dep (A3 A5 o : Nat) : Nat → Nat → Nat → Option Nat
  | 0, _, _ => none
  | n + 1, x, k =>
    cond (Nat.ble 6 k) (some 0)
      (qd_nc x none
        (fun i => cond (Nat.ble 6 i) none
          (qd_nc (qd_g A3 i) (some 0)
            (fun w => cond (Nat.ble 5 w) none
              (cond (Nat.beq (qd_g A5 w) o) (some 1) (qd_dep A3 A5 o n (qd_g A5 w) (k + 1)))))))
def qd_best (A3 l : Nat) : Nat → Nat → Nat → Option Nat
  | 0, _, _ => none
  | n + 1, b, k =>
    cond (Nat.ble 6 k) (some b)
      (cond (Nat.beq (qd_g A3 k) l) (qd_nc b (qd_best A3 l n (k + 1) (k + 1)) (fun _ => none))
        (qd_best A3 l n b (k + 1)))
def qd_held (A5 t : Nat) : Nat → Nat → Nat → Option Nat
  | 0, _, _ => none
  | n + 1, m, k =>
    cond (Nat.ble 5 k) (some m)
      (cond (Nat.beq (qd_g A5 k) t) (qd_held A5 t n (m ||| 2 ^ k) (k + 1)) (qd_held A5 t n m (k + 1)))
def qd_won (A3 A5 t : Nat) : Nat → Nat → Nat → Option Nat
  | 0, _, _ => none
  | n + 1, m, k =>
    cond (Nat.ble 6 k) (some m)
      (qd_o (qd_dep A3 A5 t 7 (k + 1) 0) (fun r =>
        cond (Nat.beq r 0) (qd_won A3 A5 t n m (k + 1))
          (cond (Nat.beq r 1) (qd_won A3 A5 t n (m ||| 2 ^ k) (k + 1)) none)))
def qd_wai (A3 l : Nat) : Nat → Nat → Nat → Option Nat
  | 0, _, _ => none
  | n + 1, c, k =>
    cond (Nat.ble 6 k) (some c)
      (cond (Nat.beq (qd_g A3 k) l) (qd_wai A3 l n (c + 1) (k + 1)) (qd_wai A3 l n c (k + 1)))
def qd_lif (A1 A2 : Nat) : Nat → Nat → Nat → Option Nat
  | 0, _, _ => none
  | n + 1, m, k =>
    cond (Nat.ble 6 k) (some m)
      (cond (Nat.ble (qd_g A2 k) (qd_g A1 k)) (qd_lif A1 A2 n m (k + 1)) (qd_lif A1 A2 n (m ||| 2 ^ k) (k + 1)))
def qd_run (A2 A3 : Nat) : Nat → Nat → Nat → Option Nat
  | 0, _, _ => none
  | n + 1, b, k =>
    cond (Nat.ble 6 k) (some b)
      (qd_nc (qd_g A3 k)
        (qd_nc b (qd_run A2 A3 n (k + 1) (k + 1))
          (fun i => cond (Nat.ble 6 i) none
            (cond (Nat.ble (qd_g A2 k) (qd_g A2 i)) (qd_run A2 A3 n (i + 1) (k + 1)) (qd_run A2 A3 n (k + 1) (k + 1)))))
        (fun _ => qd_run A2 A3 n b (k + 1)))

def qd_fill : Nat → Nat → Nat → Nat
  | 0, _, A => A
  | j + 1, k, A => qd_fill j (k + 1) (qd_u k A 0)

/-! the law's loops -/
def qd_l1 (n A3 : Nat) : Nat → Nat → Nat → Option Nat
  | 0, _, _ => none
  | f + 1, k, A5 =>
    cond (Nat.ble 5 k) (some A5)
      (cond (Nat.ble n k) (qd_l1 n A3 f (k + 1) A5)
        (qd_nc (qd_g A3 k)
          (qd_nc (qd_g A5 k) (qd_l1 n A3 f (k + 1) (qd_u k A5 (k + 1))) (fun _ => none))
          (fun _ => none)))
def qd_l2 (n A1 A5 : Nat) : Nat → Nat → Nat → Nat → Option (Nat × Nat)
  | 0, _, _, _ => none
  | f + 1, j, A2, A3 =>
    cond (Nat.ble 4 j) (some (A2, A3))
      (cond (Nat.ble n (j + 1)) (qd_l2 n A1 A5 f (j + 1) A2 A3)
        (qd_nc (qd_g A3 (j + 1))
          (qd_nc (qd_g A5 j) none (fun h =>
            cond (Nat.beq h (j + 1)) none
              (qd_o (qd_dep A3 A5 (j + 2) 7 (h + 1) 0) (fun r =>
                qd_nc r
                  (qd_o (qd_ref A1 (qd_u (j + 1) A3 (j + 1)) A5 7 (h + 1) 0 A2) (fun B2 =>
                    qd_l2 n A1 A5 f (j + 1) B2 (qd_u (j + 1) A3 (j + 1))))
                  (fun _ => none)))))
          (fun _ => none)))
def qd_base (p u a w k : Nat) : Nat := if k = a then w else if k = p then u else 0
def qd_high (p u a w : Nat) : Nat := if a = p then w else u
def qd_due0 (p u a w k : Nat) : Nat := if qd_high p u a w ≤ qd_base p u a w k then qd_base p u a w k else qd_high p u a w
def qd_due (p u a w k : Nat) : Nat := if a ≤ k then qd_due0 p u a w k else if w ≤ qd_due0 p u a w k then qd_due0 p u a w k else w
def qd_lm (p u a w k l : Nat) : Nat := if qd_due p u a w k ≤ qd_base p u a w k then l else l ||| 2 ^ k
def qd_nx (p k : Nat) : Nat := if p ≤ k then 0 else k + 2
def qd_l3 (p u a w A2 A3 A5 : Nat) : Nat → Nat → Nat → Nat → Option Nat
  | 0, _, _, _ => none
  | f + 1, x, b, l =>
    qd_nc x (some l) (fun k =>
      cond (Nat.beq (qd_g A2 k) (qd_due p u a w k + 1))
        (qd_o (qd_won A3 A5 (k + 1) 7 0 0) (fun r1 => cond (Nat.beq r1 b)
          (qd_o (qd_held A5 (k + 1) 6 0 0) (fun r2 => cond (Nat.beq r2 (2 ^ k))
            (cond (Nat.beq (qd_g A3 k) k)
              (qd_o (qd_best A3 (k + 1) 7 0 0) (fun r3 => cond (Nat.beq r3 (qd_nx p k))
                (qd_fc (qd_lm p u a w k l) (fun l2 => qd_l3 p u a w A2 A3 A5 f k (b ||| 2 ^ k) l2)) none)) none) none)) none)) none)

/-! the law's end, over n = q + 2 threads: from the last give; from giveUp; the checks ahead of it -/
def qd_e3 (q A1 A2 A3 A5 : Nat) : Bool :=
  cond (Nat.beq (qd_g A3 (q + 1)) 0)
  (cond (Nat.beq (qd_g A5 (q + 1)) (q + 2))
  (qd_b (qd_best A3 (q + 2) 7 0 0) (fun r1 => cond (Nat.beq r1 1)
  (qd_fc (qd_u (q + 1) A5 1) (fun B5 => qd_fc (qd_u 0 A3 0) (fun B3 =>
  qd_b (qd_ref A1 B3 B5 7 1 0 A2) (fun B2 =>
  qd_b (qd_ref A1 B3 B5 7 (q + 2) 0 B2) (fun _ =>
  qd_b (qd_held B5 1 6 0 0) (fun r2 => cond (Nat.beq r2 (1 ||| 2 ^ (q + 1)))
  (qd_b (qd_held B5 (q + 2) 6 0 0) (fun r3 => cond (Nat.beq r3 0)
  (cond (Nat.beq (qd_g B3 (q + 1)) 0) true false)
  false)) false)))))) false)) false) false
def qd_e2 (q A1 A2 A3 A5 : Nat) : Bool :=
  cond (Nat.beq (qd_g A3 (q + 1)) (q + 1))
  (cond (Nat.beq (qd_g A5 (q + 1)) (q + 2))
  (qd_fc (qd_u (q + 1) A3 0) (fun B3 =>
  qd_b (qd_ref A1 B3 A5 7 (qd_g A5 q) 0 A2) (fun B2 =>
  qd_b (qd_wai B3 (q + 1) 7 0 0) (fun r2 => cond (Nat.beq r2 0)
  (cond (Nat.beq (qd_g B3 (q + 1)) 0)
  (cond (Nat.beq (qd_g B3 0) 0)
  (qd_b (qd_dep B3 A5 1 7 (q + 2) 0) (fun r3 => cond (Nat.beq r3 0)
  (qd_fc (qd_u 0 B3 (q + 2)) (fun C3 =>
  qd_b (qd_ref A1 C3 A5 7 (q + 2) 0 B2) (fun C2 =>
  qd_b (qd_won C3 A5 (q + 2) 7 0 0) (fun r4 => cond (Nat.beq r4 (2 ^ (q + 1) - 1))
  (qd_e3 q A1 C2 C3 A5)
  false)))) false)) false) false) false)))) false) false
def qd_e1 (q A1 A2 A3 A5 : Nat) : Bool :=
  cond (Nat.beq (qd_g A3 0) 0)
  (cond (Nat.beq (qd_g A5 (q + 1)) (q + 2))
  (qd_b (qd_dep A3 A5 1 7 (q + 2) 0) (fun r1 => cond (Nat.beq r1 1)
  (cond (Nat.ble 1 (qd_g A3 1))
  (qd_e2 q A1 A2 A3 A5) false) false)) false) false
def qd_chk (q A3 A5 u a w : Nat) : Bool :=
  qd_fc (qd_u (q + 1) 0 (u + 1)) (fun A0 =>
  qd_b (qd_ref A0 A3 A5 7 (q + 2) 0 0) (fun B2 =>
  qd_fc (qd_u a A0 (w + 1)) (fun A1 =>
  qd_b (qd_ref A1 A3 A5 7 (a + 1) 0 B2) (fun A2 =>
  qd_b (qd_l3 (q + 1) u a w A2 A3 A5 6 (q + 2) 0 0) (fun l =>
  qd_b (qd_lif A1 A2 7 0 0) (fun r1 => cond (Nat.beq r1 l)
  (qd_b (qd_run A2 A3 7 0 0) (fun r2 => cond (Nat.beq r2 1) (qd_e1 q A1 A2 A3 A5) false)) false))))))
def qd_T3 (q : Nat) : Nat := qd_nc q 0xFFFF0F (fun q => qd_nc q 0xFFF10F (fun q => qd_nc q 0xFF210F (fun _ => 0xF3210F)))
def qd_T5 (q : Nat) : Nat := qd_nc q 0xFFF10 (fun q => qd_nc q 0xFF210 (fun q => qd_nc q 0xF3210 (fun _ => 0x43210)))
theorem qc_1 : ∀ q, q < 4 → qd_l1 (q + 2) 0xFFFFFF 6 0 0xFFFFF = some (qd_T5 q) := by decide +kernel
theorem qc_2 : ∀ q, q < 4 → qd_l2 (q + 2) 0 (qd_T5 q) 5 0 0 0xFFFFFF = some (0, qd_T3 q) := by decide +kernel
end
section
/-! every case of the law, over the packed arrays -/
theorem qc_30 : ∀ u, u < 10 → ∀ a, a < 2 → ∀ w, w < 10 → qd_chk 0 (qd_T3 0) (qd_T5 0) u a w = true := by decide +kernel
theorem qc_31 : ∀ u, u < 10 → ∀ a, a < 3 → ∀ w, w < 10 → qd_chk 1 (qd_T3 1) (qd_T5 1) u a w = true := by decide +kernel
theorem qc_32 : ∀ u, u < 10 → ∀ a, a < 4 → ∀ w, w < 10 → qd_chk 2 (qd_T3 2) (qd_T5 2) u a w = true := by decide +kernel
theorem qc_33 : ∀ u, u < 10 → ∀ a, a < 5 → ∀ w, w < 10 → qd_chk 3 (qd_T3 3) (qd_T5 3) u a w = true := by decide +kernel
theorem qc_3 {q u a w : Nat} (hq : q < 4) (hu : u < 10) (ha : a < q + 2) (hw : w < 10) : qd_chk q (qd_T3 q) (qd_T5 q) u a w = true := by
  match q, hq, ha with
  | 0, _, ha => exact qc_30 u hu a ha w hw
  | 1, _, ha => exact qc_31 u hu a ha w hw
  | 2, _, ha => exact qc_32 u hu a ha w hw
  | 3, _, ha => exact qc_33 u hu a ha w hw
end
section
/-! each method: where the run over packed arrays answers, the printed predicate holds -/
theorem qs_isT {post : Int32 → Prop} {u : St0} {k : Nat} (hk : k < 6) (h : post 1) : wpX_isThread post u (nI k) :=
  br_f (nI_pos (by omega)) (br_f (nI_ge (b := 6) hk (by decide)) h)
theorem qs_isL {post : Int32 → Prop} {u : St0} {k : Nat} (hk : k < 5) (h : post 1) : wpX_isLock post u (nI k) :=
  br_f (nI_pos (by omega)) (br_f (nI_ge (b := 5) hk (by decide)) h)
theorem qs_one : ¬ (1 : Int32) = 0 := by decide

/-! lent -/
theorem qs_l43 {post : Int32 → Prop} {J : Int32 → Int32 → Prop} {x1 x2 st : Int32} {k : Nat} {a1 a2 a3 a4 a5 : Nat → Int32} (h : J x2 (nI (k + 1))) : wX_lent_43 post J x1 x2 (nI k) st a1 a2 a3 a4 a5 :=
  br_t rfl (nm_r (nI_1 k) h)
theorem qs_l9 {post : Int32 → Prop} {t : Nat} {st : Int32} {a1 a4 : Nat → Int32} {A2 A3 A5 : Nat} (ht : t < 16) : ∀ (n m k r : Nat), m < 16 → k ≤ 6 → qd_lent A2 A3 A5 t n m k = some r → (r < 16 → post (qd_d r)) → wX_lent_9 post (qd_d t) st a1 (qd_f A2) (qd_f A3) a4 (qd_f A5) n (qd_d m) (nI k) := by
  intro n
  induction n with
  | zero =>
    intro m k r _ _ h _
    cases h
  | succ n ih =>
    intro m k r hm hk h hp
    rw [qd_lent] at h
    rcases qi_le h with ⟨z, h⟩ | ⟨z, h⟩
    · cases h
      exact br_t (nI_le (a := 6) z (by omega)) (hp hm)
    · refine br_f (nI_ge (b := 6) z (by decide)) ⟨vp_in_nI z (by decide), ?_⟩
      rw [qn_at (A := A3) (k := k) (by omega)]
      rcases qi_n h with ⟨e, h⟩ | ⟨w, e, h⟩
      · rw [e]
        exact br_t qn_z (qs_l43 (ih m (k + 1) r hm (by omega) h hp))
      · have hw := qn_lt A3 k
        rw [e] at hw
        rw [e]
        rcases qi_le h with ⟨_, h⟩ | ⟨z5, h⟩
        · cases h
        · refine br_f (qn_nz (by omega)) ⟨vp_in_nI z (by decide), vp_in_nI z5 (by decide), ?_⟩
          rw [qn_at1 (A := A5) (k := w) (by omega)]
          rcases qi_eq h with ⟨g, h⟩ | ⟨g, h⟩
          · refine br_t (by rw [g]) (br_f qs_one ⟨vp_in_nI z (by decide), ?_⟩)
            rw [qn_at (A := A2) (k := k) (by omega)]
            rcases qi_le h with ⟨y, h⟩ | ⟨y, h⟩
            · exact br_t ((qn_leI _ (qn_lt A2 k) m hm).mpr y) (nm_r (nI_1 k) (ih m (k + 1) r hm (by omega) h hp))
            · refine br_f (fun c => ?_) ⟨vp_in_nI z (by decide), nm_e (nm_r (nI_1 k) (ih _ (k + 1) r (qn_lt A2 k) (by omega) h hp))⟩
              have := (qn_leI _ (qn_lt A2 k) m hm).mp c
              omega
          · exact br_f (fun c => g (qn_inj _ (qn_lt A5 w) t ht c)) (qs_l43 (ih m (k + 1) r hm (by omega) h hp))
theorem qs_lent {post : Int32 → Prop} {st : Int32} {a4 : Nat → Int32} {A1 A2 A3 A5 i r : Nat} (hi : i < 6) (h : qd_lent A2 A3 A5 (i + 1) 7 (qd_g A1 i) 0 = some r) (hp : r < 16 → post (qd_d r)) : wpX_lent post (st, qd_f A1, qd_f A2, qd_f A3, a4, qd_f A5) (nI i) :=
  ⟨vp_in_nI hi (by decide), nm_r (qn_at (by omega)) ⟨7, qs_l9 (t := i + 1) (by omega) 7 (qd_g A1 i) 0 r (qn_lt A1 i) (by omega) h hp⟩⟩

/-! refresh -/
theorem qs_r4 {post : St2 → Prop} {st : Int32} {a4 : Nat → Int32} {A1 A3 A5 : Nat} : ∀ (n x k A2 B2 : Nat), k ≤ 6 → qd_ref A1 A3 A5 n x k A2 = some B2 → post (st, qd_f A1, qd_f B2, qd_f A3, a4, qd_f A5) → wX_refresh_4 post st n (qd_d x) (nI k) (qd_f A1) (qd_f A2) (qd_f A3) a4 (qd_f A5) := by
  intro n
  induction n with
  | zero =>
    intro x k A2 B2 _ h _
    cases h
  | succ n ih =>
    intro x k A2 B2 hk h hp
    rw [qd_ref] at h
    rcases qi_le h with ⟨z, h⟩ | ⟨z, h⟩
    · cases h
      exact br_t (nI_le (a := 6) z (by omega)) hp
    · refine br_f (nI_ge (b := 6) z (by decide)) ?_
      rcases qi_n h with ⟨e, h⟩ | ⟨i, e, h⟩
      · cases h
        rw [e]
        exact br_t qn_z hp
      · rw [e]
        rcases qi_le h with ⟨_, h⟩ | ⟨hi, h⟩
        · cases h
        · obtain ⟨r, hl, h⟩ := qi_o h
          rw [qi_f] at h
          refine br_f (qn_nz (by omega)) (qs_lent hi hl (fun hr => ⟨vp_in_nI hi (by decide), ?_⟩))
          rw [qn_at1 (A := A2) (k := i) (by omega)]
          rcases qi_eq h with ⟨g, h⟩ | ⟨g, h⟩
          · exact br_t (by rw [g]) ⟨vp_in_nI hi (by decide), nm_r (qn_u8 (by omega) hr) (br_f qs_one (nm_r (nI_1 k) (ih 0 (k + 1) _ B2 (by omega) h hp)))⟩
          · refine br_f (fun c => g (qn_inj r hr _ (qn_lt A2 i) c)) ⟨vp_in_nI hi (by decide), nm_r (qn_u8 (by omega) hr) (br_t rfl ⟨vp_in_nI hi (by decide), ?_⟩)⟩
            rw [qn_at1 (A := A3) (k := i) (by omega)]
            rcases qi_n h with ⟨e3, h⟩ | ⟨w, e3, h⟩
            · rw [e3]
              exact br_f qn_n0 (nm_r (nI_1 k) (ih 0 (k + 1) _ B2 (by omega) h hp))
            · have hw := qn_lt A3 i
              rw [e3] at hw
              rw [e3]
              rcases qi_le h with ⟨_, h⟩ | ⟨z5, h⟩
              · cases h
              · exact br_t (qn_nn (by omega)) ⟨vp_in_nI hi (by decide), vp_in_nI z5 (by decide), nm_r (qn_at1 (by omega)) (nm_r (nI_1 k) (ih (qd_g A5 w) (k + 1) _ B2 (by omega) h hp))⟩
theorem qs_ref {post : St2 → Prop} {st : Int32} {a4 : Nat → Int32} {A1 A2 A3 A5 x B2 : Nat} (h : qd_ref A1 A3 A5 7 x 0 A2 = some B2) (hp : post (st, qd_f A1, qd_f B2, qd_f A3, a4, qd_f A5)) : wpX_refresh post (st, qd_f A1, qd_f A2, qd_f A3, a4, qd_f A5) (qd_d x) :=
  ⟨7, qs_r4 7 x 0 A2 B2 (by omega) h hp⟩

/-! dependsOn -/
theorem qs_d5 {post : Int32 → Prop} {o : Nat} {st : Int32} {a1 a2 a4 : Nat → Int32} {A3 A5 : Nat} (ho : o < 16) : ∀ (n x k r : Nat), k ≤ 6 → qd_dep A3 A5 o n x k = some r → post (nI r) → wX_dependsOn_5 post (qd_d o) st a1 a2 (qd_f A3) a4 (qd_f A5) n (qd_d x) (nI k) := by
  intro n
  induction n with
  | zero =>
    intro x k r _ h _
    cases h
  | succ n ih =>
    intro x k r hk h hp
    rw [qd_dep] at h
    rcases qi_le h with ⟨z, h⟩ | ⟨z, h⟩
    · cases h
      exact br_t (nI_le (a := 6) z (by omega)) hp
    · rcases qi_n h with ⟨e, h⟩ | ⟨i, e, h⟩
      · cases h
      · rw [e]
        rcases qi_le h with ⟨_, h⟩ | ⟨hi, h⟩
        · cases h
        · refine br_f (nI_ge (b := 6) z (by decide)) ⟨vp_in_nI hi (by decide), ?_⟩
          rw [qn_at1 (A := A3) (k := i) (by omega)]
          rcases qi_n h with ⟨e3, h⟩ | ⟨w, e3, h⟩
          · cases h
            rw [e3]
            exact br_t qn_z hp
          · have hw := qn_lt A3 i
            rw [e3] at hw
            rw [e3]
            rcases qi_le h with ⟨_, h⟩ | ⟨z5, h⟩
            · cases h
            · refine br_f (qn_nz (by omega)) ⟨vp_in_nI hi (by decide), vp_in_nI z5 (by decide), nm_r (qn_at1 (by omega)) ?_⟩
              rcases qi_eq h with ⟨g, h⟩ | ⟨g, h⟩
              · cases h
                exact br_t (by rw [g]) hp
              · exact br_f (fun c => g (qn_inj _ (qn_lt A5 w) o ho c)) (nm_r (nI_1 k) (ih (qd_g A5 w) (k + 1) r (by omega) h hp))
theorem qs_dep {post : Int32 → Prop} {st : Int32} {a1 a2 a4 : Nat → Int32} {A3 A5 i j r : Nat} (hj : j < 6) (h : qd_dep A3 A5 (j + 1) 7 (i + 1) 0 = some r) (hp : post (nI r)) : wpX_dependsOn post (st, a1, a2, qd_f A3, a4, qd_f A5) (nI i) (nI j) :=
  ⟨7, qs_d5 (o := j + 1) (by omega) 7 (i + 1) 0 r (by omega) h hp⟩

/-! bestWaiting, nextFor -/
theorem qs_b4 {post : Int32 → Prop} {l : Nat} {st : Int32} {a1 a2 a4 a5 : Nat → Int32} {A3 : Nat} (hl : l < 16) : ∀ (n b k r : Nat), k ≤ 6 → qd_best A3 l n b k = some r → post (qd_d r) → wX_bestWaiting_4 post (qd_d l) st a1 a2 (qd_f A3) a4 a5 n (qd_d b) (nI k) := by
  intro n
  induction n with
  | zero =>
    intro b k r _ h _
    cases h
  | succ n ih =>
    intro b k r hk h hp
    rw [qd_best] at h
    rcases qi_le h with ⟨z, h⟩ | ⟨z, h⟩
    · cases h
      exact br_t (nI_le (a := 6) z (by omega)) hp
    · refine br_f (nI_ge (b := 6) z (by decide)) ⟨vp_in_nI z (by decide), ?_⟩
      rw [qn_at (A := A3) (k := k) (by omega)]
      rcases qi_eq h with ⟨g, h⟩ | ⟨g, h⟩
      · refine br_t (by rw [g]) ?_
        rcases qi_n h with ⟨e, h⟩ | ⟨i, e, h⟩
        · rw [e]
          exact br_t qn_z (br_t (c := qd_d 0 < 0) qn_z (br_f qs_one (nm_r (nI_1 k) (ih (k + 1) (k + 1) r (by omega) h hp))))
        · cases h
      · exact br_f (fun c => g (qn_inj _ (qn_lt A3 k) l hl c)) (nm_r (nI_1 k) (ih b (k + 1) r (by omega) h hp))
theorem qs_best {post : Int32 → Prop} {st : Int32} {a1 a2 a4 a5 : Nat → Int32} {A3 l r : Nat} (hl : l < 5) (h : qd_best A3 (l + 1) 7 0 0 = some r) (hp : post (qd_d r)) : wpX_bestWaiting post (st, a1, a2, qd_f A3, a4, a5) (nI l) :=
  ⟨7, qs_b4 (l := l + 1) (by omega) 7 0 0 r (by omega) h hp⟩
theorem qs_next {post : Int32 → Prop} {st : Int32} {a1 a2 a4 a5 : Nat → Int32} {A3 l r : Nat} (hl : l < 5) (h : qd_best A3 (l + 1) 7 0 0 = some r) (hp : post (qd_d r)) : wpX_nextFor post (st, a1, a2, qd_f A3, a4, a5) (nI l) := by
  unfold wpX_nextFor
  exact qs_isL hl (br_f qs_one (qs_best hl h hp))

/-! held, waitingOn, waiting, lifted, running, urgency, waitsFor -/
theorem qs_h4 {post : Int32 → Prop} {t : Nat} {st : Int32} {a1 a2 a3 a4 : Nat → Int32} {A5 : Nat} (ht : t < 6) : ∀ (n m k r : Nat), k ≤ 5 → qd_held A5 (t + 1) n m k = some r → post (nI r) → wX_held_4 post (nI t) st a1 a2 a3 a4 (qd_f A5) n (nI m) (nI k) := by
  intro n
  induction n with
  | zero =>
    intro m k r _ h _
    cases h
  | succ n ih =>
    intro m k r hk h hp
    rw [qd_held] at h
    rcases qi_le h with ⟨z, h⟩ | ⟨z, h⟩
    · cases h
      exact br_t (nI_le (a := 5) z (by omega)) hp
    · refine br_f (nI_ge (b := 5) z (by decide)) (qs_isT ht (br_f qs_one ⟨vp_in_nI z (by decide), ?_⟩))
      rw [qn_at (A := A5) (k := k) (by omega)]
      rcases qi_eq h with ⟨g, h⟩ | ⟨g, h⟩
      · exact br_t (by rw [g]; rfl) (nm_r (qn_bit (by omega)) (nm_r (nI_1 k) (ih _ (k + 1) r (by omega) h hp)))
      · exact br_f (fun c => g (qn_inj _ (qn_lt A5 k) (t + 1) (by omega) c)) (nm_r (qn_o0 m) (nm_r (nI_1 k) (ih m (k + 1) r (by omega) h hp)))
theorem qs_held {post : Int32 → Prop} {st : Int32} {a1 a2 a3 a4 : Nat → Int32} {A5 t r : Nat} (ht : t < 6) (h : qd_held A5 (t + 1) 6 0 0 = some r) (hp : post (nI r)) : wpX_held post (st, a1, a2, a3, a4, qd_f A5) (nI t) :=
  ⟨6, qs_h4 ht 6 0 0 r (by omega) h hp⟩
theorem qs_w4 {post : Int32 → Prop} {t : Nat} {st : Int32} {a1 a2 a4 : Nat → Int32} {A3 A5 : Nat} (ht : t < 6) : ∀ (n m k r : Nat), k ≤ 6 → qd_won A3 A5 (t + 1) n m k = some r → post (nI r) → wX_waitingOn_4 post (nI t) st a1 a2 (qd_f A3) a4 (qd_f A5) n (nI m) (nI k) := by
  intro n
  induction n with
  | zero =>
    intro m k r _ h _
    cases h
  | succ n ih =>
    intro m k r hk h hp
    rw [qd_won] at h
    rcases qi_le h with ⟨z, h⟩ | ⟨z, h⟩
    · cases h
      exact br_t (nI_le (a := 6) z (by omega)) hp
    · obtain ⟨d, hd, h⟩ := qi_o h
      refine br_f (nI_ge (b := 6) z (by decide)) (qs_isT ht (br_f qs_one (qs_dep ht hd ?_)))
      rcases qi_eq h with ⟨g, h⟩ | ⟨_, h⟩
      · rw [g]
        exact br_t rfl (nm_r (qn_o0 m) (nm_r (nI_1 k) (ih m (k + 1) r (by omega) h hp)))
      · rcases qi_eq h with ⟨g, h⟩ | ⟨_, h⟩
        · rw [g]
          exact br_f qs_one (nm_r (qn_bit z) (nm_r (nI_1 k) (ih _ (k + 1) r (by omega) h hp)))
        · cases h
theorem qs_won {post : Int32 → Prop} {st : Int32} {a1 a2 a4 : Nat → Int32} {A3 A5 t r : Nat} (ht : t < 6) (h : qd_won A3 A5 (t + 1) 7 0 0 = some r) (hp : post (nI r)) : wpX_waitingOn post (st, a1, a2, qd_f A3, a4, qd_f A5) (nI t) :=
  ⟨7, qs_w4 ht 7 0 0 r (by omega) h hp⟩
theorem qs_v4 {post : Int32 → Prop} {l : Nat} {st : Int32} {a1 a2 a4 a5 : Nat → Int32} {A3 : Nat} (hl : l < 5) : ∀ (n c k r : Nat), k ≤ 6 → qd_wai A3 (l + 1) n c k = some r → post (nI r) → wX_waiting_4 post (nI l) st a1 a2 (qd_f A3) a4 a5 n (nI c) (nI k) := by
  intro n
  induction n with
  | zero =>
    intro c k r _ h _
    cases h
  | succ n ih =>
    intro c k r hk h hp
    rw [qd_wai] at h
    rcases qi_le h with ⟨z, h⟩ | ⟨z, h⟩
    · cases h
      exact br_t (nI_le (a := 6) z (by omega)) hp
    · refine br_f (nI_ge (b := 6) z (by decide)) (qs_isL hl (br_f qs_one ⟨vp_in_nI z (by decide), ?_⟩))
      rw [qn_at (A := A3) (k := k) (by omega)]
      rcases qi_eq h with ⟨g, h⟩ | ⟨g, h⟩
      · exact br_t (by rw [g]; rfl) (nm_r (nI_1 c) (nm_r (nI_1 k) (ih (c + 1) (k + 1) r (by omega) h hp)))
      · exact br_f (fun e => g (qn_inj _ (qn_lt A3 k) (l + 1) (by omega) e)) (nm_r (qn_p0 c) (nm_r (nI_1 k) (ih c (k + 1) r (by omega) h hp)))
theorem qs_wai {post : Int32 → Prop} {st : Int32} {a1 a2 a4 a5 : Nat → Int32} {A3 l r : Nat} (hl : l < 5) (h : qd_wai A3 (l + 1) 7 0 0 = some r) (hp : post (nI r)) : wpX_waiting post (st, a1, a2, qd_f A3, a4, a5) (nI l) :=
  ⟨7, qs_v4 hl 7 0 0 r (by omega) h hp⟩
theorem qs_f4 {post : Int32 → Prop} {st : Int32} {a3 a4 a5 : Nat → Int32} {A1 A2 : Nat} : ∀ (n m k r : Nat), k ≤ 6 → qd_lif A1 A2 n m k = some r → post (nI r) → wX_lifted_4 post st (qd_f A1) (qd_f A2) a3 a4 a5 n (nI m) (nI k) := by
  intro n
  induction n with
  | zero =>
    intro m k r _ h _
    cases h
  | succ n ih =>
    intro m k r hk h hp
    rw [qd_lif] at h
    rcases qi_le h with ⟨z, h⟩ | ⟨z, h⟩
    · cases h
      exact br_t (nI_le (a := 6) z (by omega)) hp
    · refine br_f (nI_ge (b := 6) z (by decide)) ⟨vp_in_nI z (by decide), vp_in_nI z (by decide), ?_⟩
      rw [qn_at (A := A1) (k := k) (by omega), qn_at (A := A2) (k := k) (by omega)]
      rcases qi_le h with ⟨g, h⟩ | ⟨g, h⟩
      · exact br_t ((qn_leI _ (qn_lt A2 k) _ (qn_lt A1 k)).mpr g) (nm_r (qn_o0 m) (nm_r (nI_1 k) (ih m (k + 1) r (by omega) h hp)))
      · refine br_f (fun c => ?_) (nm_r (qn_bit z) (nm_r (nI_1 k) (ih _ (k + 1) r (by omega) h hp)))
        have := (qn_leI _ (qn_lt A2 k) _ (qn_lt A1 k)).mp c
        omega
theorem qs_lif {post : Int32 → Prop} {st : Int32} {a3 a4 a5 : Nat → Int32} {A1 A2 r : Nat} (h : qd_lif A1 A2 7 0 0 = some r) (hp : post (nI r)) : wpX_lifted post (st, qd_f A1, qd_f A2, a3, a4, a5) :=
  ⟨7, qs_f4 7 0 0 r (by omega) h hp⟩
theorem qs_u4 {post : Int32 → Prop} {st : Int32} {a1 a4 a5 : Nat → Int32} {A2 A3 : Nat} : ∀ (n b k r : Nat), k ≤ 6 → qd_run A2 A3 n b k = some r → post (qd_d r) → wX_running_4 post st a1 (qd_f A2) (qd_f A3) a4 a5 n (qd_d b) (nI k) := by
  intro n
  induction n with
  | zero =>
    intro b k r _ h _
    cases h
  | succ n ih =>
    intro b k r hk h hp
    rw [qd_run] at h
    rcases qi_le h with ⟨z, h⟩ | ⟨z, h⟩
    · cases h
      exact br_t (nI_le (a := 6) z (by omega)) hp
    · refine br_f (nI_ge (b := 6) z (by decide)) ⟨vp_in_nI z (by decide), ?_⟩
      rw [qn_at (A := A3) (k := k) (by omega)]
      rcases qi_n h with ⟨e, h⟩ | ⟨w, e, h⟩
      · rw [e]
        refine br_f qn_n0 ?_
        rcases qi_n h with ⟨e2, h⟩ | ⟨i, e2, h⟩
        · rw [e2]
          exact br_t qn_z (nm_r (nI_1 k) (ih (k + 1) (k + 1) r (by omega) h hp))
        · rw [e2]
          rcases qi_le h with ⟨_, h⟩ | ⟨hi, h⟩
          · cases h
          · refine br_f (qn_nz (by omega)) ⟨vp_in_nI z (by decide), vp_in_nI hi (by decide), ?_⟩
            rw [qn_at (A := A2) (k := k) (by omega), qn_at1 (A := A2) (k := i) (by omega)]
            rcases qi_le h with ⟨g, h⟩ | ⟨g, h⟩
            · exact br_t ((qn_leI _ (qn_lt A2 k) _ (qn_lt A2 i)).mpr g) (nm_r (nI_1 k) (ih (i + 1) (k + 1) r (by omega) h hp))
            · refine br_f (fun c => ?_) (nm_r (nI_1 k) (ih (k + 1) (k + 1) r (by omega) h hp))
              have := (qn_leI _ (qn_lt A2 k) _ (qn_lt A2 i)).mp c
              omega
      · have hw := qn_lt A3 k
        rw [e] at hw
        rw [e]
        exact br_t (qn_nn (by omega)) (nm_r (nI_1 k) (ih b (k + 1) r (by omega) h hp))
theorem qs_run {post : Int32 → Prop} {st : Int32} {a1 a4 a5 : Nat → Int32} {A2 A3 r : Nat} (h : qd_run A2 A3 7 0 0 = some r) (hp : post (qd_d r)) : wpX_running post (st, a1, qd_f A2, qd_f A3, a4, a5) :=
  ⟨7, qs_u4 7 0 0 r (by omega) h hp⟩
theorem qs_urg {post : Int32 → Prop} {st : Int32} {a1 a3 a4 a5 : Nat → Int32} {A2 t c : Nat} (ht : t < 6) (e : qd_g A2 t = c) (hp : post (qd_d c)) : wpX_urgency post (st, a1, qd_f A2, a3, a4, a5) (nI t) := by
  unfold wpX_urgency
  exact qs_isT ht (br_f qs_one ⟨vp_in_nI ht (by decide), ek_v (P := post) ((qn_at (by omega)).trans (congrArg qd_d e)) hp⟩)
theorem qs_wf {post : Int32 → Prop} {st : Int32} {a1 a2 a4 a5 : Nat → Int32} {A3 t c : Nat} (ht : t < 6) (e : qd_g A3 t = c) (hp : post (qd_d c)) : wpX_waitsFor post (st, a1, a2, qd_f A3, a4, a5) (nI t) := by
  unfold wpX_waitsFor
  exact qs_isT ht (br_f qs_one ⟨vp_in_nI ht (by decide), ek_v (P := post) ((qn_at (by omega)).trans (congrArg qd_d e)) hp⟩)
end
section
/-! the methods that store -/
theorem qs_setB {post : Int32 → St2 → Prop} {st : Int32} {a4 : Nat → Int32} {A1 A2 A3 A5 t u B2 : Nat} (ht : t < 6) (hu : u < 10) (hr : qd_ref (qd_u t A1 (u + 1)) A3 A5 7 (t + 1) 0 A2 = some B2) (hp : post 1 (st, qd_f (qd_u t A1 (u + 1)), qd_f B2, qd_f A3, a4, qd_f A5)) : wpX_setBase post (st, qd_f A1, qd_f A2, qd_f A3, a4, qd_f A5) (nI t) (nI u) := by
  unfold wpX_setBase
  exact qs_isT ht (br_f qs_one (br_f (nI_pos (by omega)) (br_t (nI_le (b := 9) (by omega) (by decide)) ⟨vp_in_nI ht (by decide), nm_r (qn_u8 (c := u + 1) (by omega) (by omega)) (qs_ref (x := t + 1) hr hp)⟩)))
theorem qs_setB6 {post : Int32 → St2 → Prop} {st : Int32} {a1 a2 a3 a4 a5 : Nat → Int32} (hp : post 0 (st, a1, a2, a3, a4, a5)) : wpX_setBase post (st, a1, a2, a3, a4, a5) 6 0 := by
  unfold wpX_setBase wpX_isThread
  exact br_f (by decide) (br_t (by decide) (br_t rfl hp))
theorem qs_setB10 {post : Int32 → St2 → Prop} {st : Int32} {a1 a2 a3 a4 a5 : Nat → Int32} (hp : post 0 (st, a1, a2, a3, a4, a5)) : wpX_setBase post (st, a1, a2, a3, a4, a5) 0 10 := by
  unfold wpX_setBase wpX_isThread
  exact br_f (by decide) (br_f (by decide) (br_f qs_one (br_f (by decide) (br_f (by decide) hp))))
theorem qs_guW {post : Int32 → St2 → Prop} {st : Int32} {a4 : Nat → Int32} {A1 A2 A3 A5 t l B2 : Nat} (ht : t < 6) (hl : l < 5) (h3 : qd_g A3 t = l + 1) (hr : qd_ref A1 (qd_u t A3 0) A5 7 (qd_g A5 l) 0 A2 = some B2) (hp : post 1 (st, qd_f A1, qd_f B2, qd_f (qd_u t A3 0), a4, qd_f A5)) : wpX_giveUp post (st, qd_f A1, qd_f A2, qd_f A3, a4, qd_f A5) (nI t) := by
  unfold wpX_giveUp
  refine qs_isT ht (br_f qs_one ⟨vp_in_nI ht (by decide), ?_⟩)
  rw [qn_at (A := A3) (k := t) (by omega), h3]
  exact br_t (qn_nn (by omega)) ⟨vp_in_nI ht (by decide), vp_in_nI hl (by decide), nm_r (qn_at1 (by omega)) ⟨vp_in_nI ht (by decide), nm_r (qn_u (c := 0) (by omega) (by decide)) (qs_ref hr hp)⟩⟩
theorem qs_guN {post : Int32 → St2 → Prop} {st : Int32} {a1 a2 a4 a5 : Nat → Int32} {A3 t : Nat} (ht : t < 6) (h3 : qd_g A3 t = 0) (hp : post 0 (st, a1, a2, qd_f A3, a4, a5)) : wpX_giveUp post (st, a1, a2, qd_f A3, a4, a5) (nI t) := by
  unfold wpX_giveUp
  refine qs_isT ht (br_f qs_one ⟨vp_in_nI ht (by decide), ?_⟩)
  rw [qn_at (A := A3) (k := t) (by omega), h3]
  exact br_f qn_n0 hp
theorem qs_giveN {post : Int32 → St2 → Prop} {st : Int32} {a1 a2 a4 a5 : Nat → Int32} {A3 t l : Nat} (ht : t < 6) (hl : l < 5) (h3 : 1 ≤ qd_g A3 t) (hp : post (-2) (st, a1, a2, qd_f A3, a4, a5)) : wpX_give post (st, a1, a2, qd_f A3, a4, a5) (nI t) (nI l) := by
  have hw := qn_lt A3 t
  obtain ⟨w, e⟩ : ∃ w, qd_g A3 t = w + 1 := ⟨qd_g A3 t - 1, by omega⟩
  unfold wpX_give
  refine qs_isT ht (br_f qs_one (qs_isL hl (br_f qs_one ⟨vp_in_nI ht (by decide), ?_⟩)))
  rw [qn_at (A := A3) (k := t) (by omega), e]
  exact br_t (qn_nn (by omega)) hp
theorem qs_giveG {post : Int32 → St2 → Prop} {st : Int32} {a4 : Nat → Int32} {A1 A2 A3 A5 t l r B2 C2 : Nat} (ht : t < 6) (hl : l < 5) (h3 : qd_g A3 t = 0) (h5 : qd_g A5 l = t + 1) (hb : qd_best A3 (l + 1) 7 0 0 = some (r + 1)) (hr : r < 6) (hr1 : qd_ref A1 (qd_u r A3 0) (qd_u l A5 (r + 1)) 7 (r + 1) 0 A2 = some B2) (hr2 : qd_ref A1 (qd_u r A3 0) (qd_u l A5 (r + 1)) 7 (t + 1) 0 B2 = some C2)
    (hp : post (nI r) (st, qd_f A1, qd_f C2, qd_f (qd_u r A3 0), a4, qd_f (qd_u l A5 (r + 1)))) : wpX_give post (st, qd_f A1, qd_f A2, qd_f A3, a4, qd_f A5) (nI t) (nI l) := by
  unfold wpX_give
  refine qs_isT ht (br_f qs_one (qs_isL hl (br_f qs_one ⟨vp_in_nI ht (by decide), ?_⟩)))
  rw [qn_at (A := A3) (k := t) (by omega), h3]
  refine br_f qn_n0 ⟨vp_in_nI hl (by decide), ?_⟩
  rw [qn_at (A := A5) (k := l) (by omega), h5]
  exact br_t rfl (qs_best hl hb ⟨vp_in_nI hl (by decide), nm_r (qn_u8 (c := r + 1) (by omega) (by omega)) (br_f (qn_nz (by omega)) ⟨vp_in_nI hr (by decide), nm_r (qn_u (i := r) (c := 0) (by omega) (by decide)) (qs_ref (x := r + 1) hr1 (qs_ref (x := t + 1) hr2 hp))⟩)⟩)
theorem qs_takeF {post : Int32 → St2 → Prop} {st : Int32} {a1 a2 a4 : Nat → Int32} {A3 A5 t l : Nat} (ht : t < 6) (hl : l < 5) (h3 : qd_g A3 t = 0) (h5 : qd_g A5 l = 0) (hp : post 0 (st, a1, a2, qd_f A3, a4, qd_f (qd_u l A5 (t + 1)))) : wpX_take post (st, a1, a2, qd_f A3, a4, qd_f A5) (nI t) (nI l) := by
  unfold wpX_take
  refine qs_isT ht (br_f qs_one (qs_isL hl (br_f qs_one ⟨vp_in_nI ht (by decide), ?_⟩)))
  rw [qn_at (A := A3) (k := t) (by omega), h3]
  refine br_f qn_n0 ⟨vp_in_nI hl (by decide), ?_⟩
  rw [qn_at (A := A5) (k := l) (by omega), h5]
  refine br_f (fun c => ?_) ⟨vp_in_nI hl (by decide), nm_e (br_f qn_n0 ⟨vp_in_nI hl (by decide), nm_r (qn_u8 (c := t + 1) (by omega) (by omega)) hp⟩)⟩
  have := qn_inj 0 (by omega) (t + 1) (by omega) c
  omega
theorem qs_takeW {post : Int32 → St2 → Prop} {st : Int32} {a4 : Nat → Int32} {A1 A2 A3 A5 t l h B2 : Nat} (ht : t < 6) (hl : l < 5) (h3 : qd_g A3 t = 0) (h5 : qd_g A5 l = h + 1) (hne : h ≠ t) (hd : qd_dep A3 A5 (t + 1) 7 (h + 1) 0 = some 0) (hr : qd_ref A1 (qd_u t A3 (l + 1)) A5 7 (h + 1) 0 A2 = some B2)
    (hp : ∀ st' a4', post 1 (st', qd_f A1, qd_f B2, qd_f (qd_u t A3 (l + 1)), a4', qd_f A5)) : wpX_take post (st, qd_f A1, qd_f A2, qd_f A3, a4, qd_f A5) (nI t) (nI l) := by
  have hh := qn_lt A5 l
  rw [h5] at hh
  unfold wpX_take
  refine qs_isT ht (br_f qs_one (qs_isL hl (br_f qs_one ⟨vp_in_nI ht (by decide), ?_⟩)))
  rw [qn_at (A := A3) (k := t) (by omega), h3]
  refine br_f qn_n0 ⟨vp_in_nI hl (by decide), ?_⟩
  rw [qn_at (A := A5) (k := l) (by omega), h5]
  refine br_f (fun c => ?_) ⟨vp_in_nI hl (by decide), nm_e (br_t (qn_nn (by omega)) (qs_dep (i := h) ht hd (br_t rfl ⟨vp_in_nI ht (by decide), nm_r (qn_u8 (c := l + 1) (by omega) (by omega)) ⟨vp_in_nI ht (by decide), nm_e (nm_e (qs_ref (x := h + 1) hr (hp _ _)))⟩⟩)))⟩
  have := qn_inj (h + 1) (by omega) (t + 1) (by omega) c
  omega
theorem qs_takeR {post : Int32 → St2 → Prop} {st : Int32} {a1 a2 a4 : Nat → Int32} {A3 A5 t l h : Nat} (ht : t < 6) (hl : l < 5) (h3 : qd_g A3 t = 0) (h5 : qd_g A5 l = h + 1) (hne : h ≠ t) (hd : qd_dep A3 A5 (t + 1) 7 (h + 1) 0 = some 1)
    (hp : post (-2) (st, a1, a2, qd_f A3, a4, qd_f A5)) : wpX_take post (st, a1, a2, qd_f A3, a4, qd_f A5) (nI t) (nI l) := by
  have hh := qn_lt A5 l
  rw [h5] at hh
  unfold wpX_take
  refine qs_isT ht (br_f qs_one (qs_isL hl (br_f qs_one ⟨vp_in_nI ht (by decide), ?_⟩)))
  rw [qn_at (A := A3) (k := t) (by omega), h3]
  refine br_f qn_n0 ⟨vp_in_nI hl (by decide), ?_⟩
  rw [qn_at (A := A5) (k := l) (by omega), h5]
  refine br_f (fun c => ?_) ⟨vp_in_nI hl (by decide), nm_e (br_t (qn_nn (by omega)) (qs_dep (i := h) ht hd (br_f qs_one hp)))⟩
  have := qn_inj (h + 1) (by omega) (t + 1) (by omega) c
  omega
theorem qs_takeB {post : Int32 → St2 → Prop} {st : Int32} {a1 a2 a3 a4 a5 : Nat → Int32} (hp : post (-1) (st, a1, a2, a3, a4, a5)) : wpX_take post (st, a1, a2, a3, a4, a5) 5 5 := by
  unfold wpX_take wpX_isThread wpX_isLock
  exact br_f (by decide) (br_f (by decide) (br_f qs_one (br_f (by decide) (br_t (by decide) (br_t rfl hp)))))

/-! the constructor -/
theorem qs_66 {post : St2 → Prop} {mc ms kc ks : Nat} {st : Int32} {a1 a2 a3 a4 : Nat → Int32} : ∀ (j k A : Nat), k + j = 5 → post (st, a1, a2, a3, a4, qd_f (qd_fill j k A)) → wX_init_66 post mc ms kc ks st (j + 1) (nI k) a1 a2 a3 a4 (qd_f A) := by
  intro j
  induction j with
  | zero =>
    intro k A hk hp
    exact br_t (nI_le (a := 5) (by omega) (by omega)) hp
  | succ j ih =>
    intro k A hk hp
    exact br_f (nI_ge (b := 5) (by omega) (by decide)) ⟨vp_in_nI (by omega) (by decide), nm_r (qn_u (c := 0) (by omega) (by decide)) (nm_r (nI_1 k) (ih (k + 1) _ (by omega) hp))⟩
theorem qs_45 {post : St2 → Prop} {mc ms kc ks : Nat} {st : Int32} {a1 a2 a4 : Nat → Int32} : ∀ (j k A : Nat), k + j = 6 → post (st, a1, a2, qd_f (qd_fill j k A), a4, qd_f (qd_fill 5 0 0)) → wX_init_45 post mc ms kc ks st (j + 1) (nI k) a1 a2 (qd_f A) a4 (qd_f 0) := by
  intro j
  induction j with
  | zero =>
    intro k A hk hp
    exact br_t (nI_le (a := 6) (by omega) (by omega)) ⟨6, qs_66 5 0 0 (by omega) hp⟩
  | succ j ih =>
    intro k A hk hp
    exact br_f (nI_ge (b := 6) (by omega) (by decide)) ⟨vp_in_nI (by omega) (by decide), nm_r (qn_u (c := 0) (by omega) (by decide)) (nm_r (nI_1 k) (ih (k + 1) _ (by omega) hp))⟩
theorem qs_f6 : qd_fill 6 0 0 = 0xFFFFFF := by decide +kernel
theorem qs_f5 : qd_fill 5 0 0 = 0xFFFFF := by decide +kernel
theorem qs_init {post : St2 → Prop} {st : Int32} (hp : post (st, qd_f 0, qd_f 0, qd_f 0xFFFFFF, qd_f 0, qd_f 0xFFFFF)) : wpX_init post 5 29 st := by
  unfold wpX_init
  rw [qn_f0]
  refine ⟨by decide, by decide, by decide, by decide, by decide, by decide, by decide, by decide, by decide, by decide, 7, qs_45 6 0 0 (by omega) ?_⟩
  rw [qs_f6, qs_f5]
  exact hp
end
section
/-! the law's first two loops -/
theorem qs_49 {post : Int32 → St0 → Prop} {mc ms kc ks : Nat} {x6 x7 x8 st : Int32} {a1 a2 a4 : Nat → Int32} {n A3 : Nat} (hn : n < 16) : ∀ (f k A5 B5 : Nat), k ≤ 5 → qd_l1 n A3 f k A5 = some B5 → (∃ fu, wL_lawOf_99 post mc ms (nI n) x6 x7 x8 kc ks fu 1 1 st a1 a2 (qd_f A3) a4 (qd_f B5)) → wL_lawOf_49 post mc ms (nI n) x6 x7 x8 kc ks f 1 (nI k) st a1 a2 (qd_f A3) a4 (qd_f A5) := by
  intro f
  induction f with
  | zero =>
    intro k A5 B5 _ h _
    cases h
  | succ f ih =>
    intro k A5 B5 hk h H
    rw [qd_l1] at h
    rcases qi_le h with ⟨z, h⟩ | ⟨z, h⟩
    · cases h
      exact br_t (nI_le (a := 5) z (by omega)) H
    · refine br_f (nI_ge (b := 5) z (by decide)) ?_
      rcases qi_le h with ⟨y, h⟩ | ⟨y, h⟩
      · exact br_t (nI_le y (by omega)) (nm_r (nI_1 k) (ih (k + 1) A5 B5 (by omega) h H))
      · rcases qi_n h with ⟨e3, h⟩ | ⟨_, _, h⟩
        · rcases qi_n h with ⟨e5, h⟩ | ⟨_, _, h⟩
          · exact br_f (nI_ge y (by omega)) (qs_takeF (by omega) z e3 e5 (br_f qs_one (br_t rfl (nm_r (nI_1 k) (ih (k + 1) _ B5 (by omega) h H)))))
          · cases h
        · cases h
theorem qs_99 {post : Int32 → St0 → Prop} {mc ms kc ks : Nat} {x6 x7 x8 : Int32} {n A1 A5 : Nat} (hn : n < 16) : ∀ (f j A2 A3 B2 B3 : Nat) (st : Int32) (a4 : Nat → Int32), j ≤ 4 → qd_l2 n A1 A5 f j A2 A3 = some (B2, B3) → (∀ (f : Nat) (st : Int32) (a4 : Nat → Int32), wL_lawOf_99 post mc ms (nI n) x6 x7 x8 kc ks (f + 1) 1 (nI 5) st (qd_f A1) (qd_f B2) (qd_f B3) a4 (qd_f A5)) → wL_lawOf_99 post mc ms (nI n) x6 x7 x8 kc ks f 1 (nI (j + 1)) st (qd_f A1) (qd_f A2) (qd_f A3) a4 (qd_f A5) := by
  intro f
  induction f with
  | zero =>
    intro j A2 A3 B2 B3 st a4 _ h _
    cases h
  | succ f ih =>
    intro j A2 A3 B2 B3 st a4 hj h H
    rw [qd_l2] at h
    rcases qi_le h with ⟨z, h⟩ | ⟨z, h⟩
    · cases h
      have e : j = 4 := by omega
      subst e
      exact H f st a4
    · refine br_f (nI_ge (b := 5) (by omega) (by decide)) ?_
      rcases qi_le h with ⟨y, h⟩ | ⟨y, h⟩
      · exact br_t (nI_le y (by omega)) (nm_r (nI_1 (j + 1)) (ih (j + 1) A2 A3 B2 B3 st a4 (by omega) h H))
      · refine br_f (nI_ge y (by omega)) ?_
        rw [nI_pred j]
        rcases qi_n h with ⟨e3, h⟩ | ⟨_, _, h⟩
        · rcases qi_n h with ⟨_, h⟩ | ⟨g, e5, h⟩
          · cases h
          · rcases qi_eq h with ⟨_, h⟩ | ⟨hne, h⟩
            · cases h
            · obtain ⟨r, hd, h⟩ := qi_o h
              rcases qi_n h with ⟨er, h⟩ | ⟨_, _, h⟩
              · rw [er] at hd
                obtain ⟨C2, hr, h⟩ := qi_o h
                exact qs_takeW (by omega) (by omega) e3 e5 hne hd hr (fun st' a4' => br_f qs_one (br_t rfl (nm_r (nI_1 (j + 1)) (ih (j + 1) C2 _ B2 B3 st' a4' (by omega) h H))))
              · cases h
        · cases h

/-! the third loop, step by step -/
theorem qn_m1 (k : Nat) : nI k + (-1) = qd_d k := by
  cases k with
  | zero => decide
  | succ k => exact pk_m1 k
theorem qn_s1 (k : Nat) : nI k - 1 = qd_d k := by
  cases k with
  | zero => decide
  | succ k => exact nI_pred k
section
variable {post : Int32 → St0 → Prop} {mc ms kc ks : Nat} {J : Int32 → Int32 → Int32 → Int32 → Prop} {x5 x6 x7 x8 x9 x10 x11 x12 x13 st : Int32} {a1 a2 a3 a4 a5 : Nat → Int32}
theorem qs_386 {k l b : Nat} (hk : k < 6) (h : J 1 (nI (b ||| 2 ^ k)) (nI l) (qd_d k)) : wL_lawOf_386 post mc ms J x5 x6 x7 x8 x10 x11 (nI b) (nI l) (nI k) 1 kc ks st a1 a2 a3 a4 a5 :=
  nm_r (qn_bit hk) (nm_r (qn_m1 k) h)
theorem qs_378 {p k l b : Nat} (hk : k < 6) (hp : p < 6) (h : J 1 (nI (b ||| 2 ^ k)) (nI l) (qd_d k)) : (nI (p + 1) - 1 ≤ nI k → wL_lawOf_378 post mc ms J x5 x6 x7 x8 x10 x11 (nI b) (nI l) (nI k) (-1) (qd_d (qd_nx p k)) kc ks st a1 a2 a3 a4 a5) ∧ (¬ nI (p + 1) - 1 ≤ nI k → wL_lawOf_378 post mc ms J x5 x6 x7 x8 x10 x11 (nI b) (nI l) (nI k) (nI k + 1) (qd_d (qd_nx p k)) kc ks st a1 a2 a3 a4 a5) :=
  pk_le p k (fun z => br_t (by unfold qd_nx; rw [if_pos z]; rfl) (qs_386 hk h)) (fun z => br_t (by unfold qd_nx; rw [if_neg (by omega)]; exact (nI_1 k).symm) (qs_386 hk h)) (nI_pred p) rfl (by omega) (by omega)
theorem qs_295 {p k l b D A2 A3 A5 : Nat} (hk : k < 5) (hp : p < 6) (hD : qd_g A2 k = D + 1) (h1 : qd_won A3 A5 (k + 1) 7 0 0 = some b) (h2 : qd_held A5 (k + 1) 6 0 0 = some (2 ^ k)) (h3 : qd_g A3 k = k) (h4 : qd_best A3 (k + 1) 7 0 0 = some (qd_nx p k)) (h : J 1 (nI (b ||| 2 ^ k)) (nI l) (qd_d k)) :
    wL_lawOf_295 post mc ms J (nI (p + 1)) x6 x7 x8 1 x10 x11 (nI b) (nI k) (nI D) (nI l) kc ks st a1 (qd_f A2) (qd_f A3) a4 (qd_f A5) :=
  br_f qs_one (qs_urg (by omega) hD (br_t rfl (qs_won (by omega) h1 (br_t rfl (qs_held (by omega) h2 (br_t (qn_sh k (by omega)).symm (qs_wf (by omega) h3 (br_t (qn_s1 k).symm (qs_next hk h4 (qs_378 (by omega) hp h))))))))))
theorem qs_274 {k l B D : Nat} (hk : k < 6) (hB : B < 16) (hD : D < 16) (H : wL_lawOf_295 post mc ms J x5 x6 x7 x8 x9 x10 x11 x12 (nI k) (nI D) (nI (if D ≤ B then l else l ||| 2 ^ k)) kc ks st a1 a2 a3 a4 a5) : wL_lawOf_274 post mc ms J x5 x6 x7 x8 x9 x10 x11 x12 (nI l) (nI k) (nI B) (nI D) kc ks st a1 a2 a3 a4 a5 :=
  pk_le D B (fun z => by rw [if_pos z] at H; exact H) (fun z => by rw [if_neg (by omega), ← qn_bit hk] at H; exact H) rfl rfl (by omega) (by omega)
theorem qs_251 {a w k B D : Nat} (hk : k < 6) (ha : a < 6) (hw : w < 16) (hD : D < 16) (H : wL_lawOf_274 post mc ms J x5 x6 (nI a) (nI w) x9 x10 x11 x12 x13 (nI k) (nI B) (nI (if a ≤ k then D else if w ≤ D then D else w)) kc ks st a1 a2 a3 a4 a5) : wL_lawOf_251 post mc ms J x5 x6 (nI a) (nI w) x9 x10 x11 x12 x13 (nI k) (nI B) (nI D) kc ks st a1 a2 a3 a4 a5 :=
  pk_le a k (fun z => by rw [if_pos z] at H; exact H) (fun z => pk_le w D (fun y => by rw [if_neg (by omega), if_pos y] at H; exact H) (fun y => by rw [if_neg (by omega), if_neg (by omega)] at H; exact H) rfl rfl (by omega) (by omega)) rfl rfl (by omega) (by omega)
theorem qs_235 {k B E : Nat} (hB : B < 16) (hE : E < 16) (H : wL_lawOf_251 post mc ms J x5 x6 x7 x8 x9 x10 x11 x12 x13 (nI k) (nI B) (nI (if E ≤ B then B else E)) kc ks st a1 a2 a3 a4 a5) : wL_lawOf_235 post mc ms J x5 x6 x7 x8 x9 x10 x11 x12 x13 (nI k) (nI B) (nI E) kc ks st a1 a2 a3 a4 a5 :=
  pk_le E B (fun z => by rw [if_pos z] at H; exact H) (fun z => by rw [if_neg (by omega)] at H; exact H) rfl rfl (by omega) (by omega)
theorem qs_217 {p u a w k B : Nat} (hp : p < 6) (ha : a < 6) (H : wL_lawOf_235 post mc ms J (nI (p + 1)) (nI u) (nI a) (nI w) x9 x10 x11 x12 x13 (nI k) (nI B) (nI (if a = p then w else u)) kc ks st a1 a2 a3 a4 a5) : wL_lawOf_217 post mc ms J (nI (p + 1)) (nI u) (nI a) (nI w) x9 x10 x11 x12 x13 (nI k) (nI B) kc ks st a1 a2 a3 a4 a5 :=
  pk_eq a p (fun z => by rw [if_pos z] at H; exact H) (fun z => by rw [if_neg z] at H; exact H) rfl (nI_pred p) (by omega) (by omega)
theorem qs_b0 {p u a w k : Nat} (hu : u < 10) (hw : w < 10) : qd_base p u a w k < 16 := by
  unfold qd_base
  split
  · omega
  · split <;> omega
theorem qs_hi {p u a w : Nat} (hu : u < 10) (hw : w < 10) : qd_high p u a w < 16 := by
  unfold qd_high
  split <;> omega
theorem qs_d0 {p u a w k : Nat} (hu : u < 10) (hw : w < 10) : qd_due0 p u a w k < 16 := by
  unfold qd_due0
  split
  · exact qs_b0 hu hw
  · exact qs_hi hu hw
theorem qs_du {p u a w k : Nat} (hu : u < 10) (hw : w < 10) : qd_due p u a w k < 16 := by
  unfold qd_due
  split
  · exact qs_d0 hu hw
  · split
    · exact qs_d0 hu hw
    · omega
theorem qs_step {p u a w k l b A2 A3 A5 : Nat} (hk : k < 5) (hp : p < 6) (hu : u < 10) (ha : a < 6) (hw : w < 10) (hD : qd_g A2 k = qd_due p u a w k + 1) (h1 : qd_won A3 A5 (k + 1) 7 0 0 = some b) (h2 : qd_held A5 (k + 1) 6 0 0 = some (2 ^ k)) (h3 : qd_g A3 k = k) (h4 : qd_best A3 (k + 1) 7 0 0 = some (qd_nx p k)) (h : J 1 (nI (b ||| 2 ^ k)) (nI (qd_lm p u a w k l)) (qd_d k)) :
    wL_lawOf_217 post mc ms J (nI (p + 1)) (nI u) (nI a) (nI w) 1 x10 x11 (nI b) (nI l) (nI k) (nI (qd_base p u a w k)) kc ks st a1 (qd_f A2) (qd_f A3) a4 (qd_f A5) :=
  qs_217 hp ha (qs_235 (qs_b0 hu hw) (qs_hi hu hw) (qs_251 (by omega) ha (by omega) (qs_d0 hu hw) (qs_274 (by omega) (qs_b0 hu hw) (qs_du hu hw) (qs_295 hk hp hD h1 h2 h3 h4 h))))
end
theorem qs_185 {post : Int32 → St0 → Prop} {mc ms kc ks : Nat} {st : Int32} {a1 a4 : Nat → Int32} {p u a w A2 A3 A5 : Nat} (hp : p < 5) (hu : u < 10) (ha : a < 6) (hw : w < 10) : ∀ (f x b l L : Nat), x ≤ p + 1 → qd_l3 p u a w A2 A3 A5 f x b l = some L → (∀ (f : Nat) (b : Int32), wL_lawOf_185 post mc ms (nI (p + 1)) (nI u) (nI a) (nI w) 1 1 kc ks st a1 (qd_f A2) (qd_f A3) a4 (qd_f A5) (f + 1) 1 b (nI L) (-1)) → wL_lawOf_185 post mc ms (nI (p + 1)) (nI u) (nI a) (nI w) 1 1 kc ks st a1 (qd_f A2) (qd_f A3) a4 (qd_f A5) f 1 (nI b) (nI l) (qd_d x) := by
  intro f
  induction f with
  | zero =>
    intro x b l L _ h _
    cases h
  | succ f ih =>
    intro x b l L hx h H
    rw [qd_l3] at h
    rcases qi_n h with ⟨e, h⟩ | ⟨k, e, h⟩
    · cases h
      rw [e]
      exact H f (nI b)
    · rw [e]
      rcases qi_eq h with ⟨hD, h⟩ | ⟨_, h⟩
      rotate_left
      · cases h
      obtain ⟨r1, h1, h⟩ := qi_o h
      rcases qi_eq h with ⟨g1, h⟩ | ⟨_, h⟩
      rotate_left
      · cases h
      obtain ⟨r2, h2, h⟩ := qi_o h
      rcases qi_eq h with ⟨g2, h⟩ | ⟨_, h⟩
      rotate_left
      · cases h
      rcases qi_eq h with ⟨h3, h⟩ | ⟨_, h⟩
      rotate_left
      · cases h
      obtain ⟨r3, h4, h⟩ := qi_o h
      rcases qi_eq h with ⟨g3, h⟩ | ⟨_, h⟩
      rotate_left
      · cases h
      rw [qi_f] at h
      rw [g1] at h1
      rw [g2] at h2
      rw [g3] at h4
      have hk : k < 5 := by omega
      have M := ih k _ _ L (by omega) h H
      have N := qs_step (post := post) (mc := mc) (ms := ms) (kc := kc) (ks := ks) (st := st) (a1 := a1) (a4 := a4) (x10 := 1) (x11 := 1) hk (by omega) hu ha hw hD h1 h2 h3 h4 M
      refine br_f (nI_pos (n := k) (by omega)) (pk_eq k a (fun z => ?_) (fun z => pk_eq k p (fun y => ?_) (fun y => ?_) rfl (nI_pred p) (by omega) (by omega)) rfl rfl (by omega) (by omega))
      · rw [show qd_base p u a w k = w from if_pos z] at N
        exact N
      · rw [show qd_base p u a w k = u from (if_neg z).trans (if_pos y)] at N
        exact N
      · rw [show qd_base p u a w k = 0 from (if_neg z).trans (if_neg y)] at N
        exact N
end
section
theorem qn_p1 (q : Nat) : nI (q + 2) - 1 = nI (q + 1) := nI_pred (q + 1)
theorem qn_p2 (q : Nat) : nI (q + 2) - 2 = nI q := pk_sub (a := q + 2) (b := 2) (by omega)
theorem qn_pw (q : Nat) : nI (2 ^ (q + 1)) - 1 = nI (2 ^ (q + 1) - 1) := pk_sub (b := 1) Nat.one_le_two_pow
theorem qs_555 {post : Int32 → St0 → Prop} {mc ms kc ks : Nat} {st : Int32} {a4 : Nat → Int32} {q A1 A2 A3 A5 : Nat} (hq : q < 4) (h : qd_e3 q A1 A2 A3 A5 = true) (hpost : post 1 ()) : wL_lawOf_555 post mc ms (nI (q + 2)) 1 kc ks st (qd_f A1) (qd_f A2) (qd_f A3) a4 (qd_f A5) := by
  unfold qd_e3 at h
  obtain ⟨h3, h⟩ := qi_E h
  obtain ⟨h5, h⟩ := qi_E h
  obtain ⟨r1, hb, h⟩ := qi_b h
  obtain ⟨g1, h⟩ := qi_E h
  rw [qi_f, qi_f] at h
  obtain ⟨B2, hr1, h⟩ := qi_b h
  obtain ⟨C2, hr2, h⟩ := qi_b h
  obtain ⟨r2, hh1, h⟩ := qi_b h
  obtain ⟨g2, h⟩ := qi_E h
  obtain ⟨r3, hh2, h⟩ := qi_b h
  obtain ⟨g3, h⟩ := qi_E h
  obtain ⟨h6, _⟩ := qi_E h
  rw [g1] at hb
  rw [g2] at hh1
  rw [g3] at hh2
  unfold wL_lawOf_555
  rw [qn_p1 q, qn_sh (q + 1) (by omega)]
  refine qs_giveG (t := q + 1) (l := q + 1) (r := 0) (by omega) (by omega) h3 h5 hb (by omega) hr1 hr2 ?_
  refine br_f qs_one (br_t rfl (qs_held (t := 0) (by omega) hh1 (br_t (qn_or 1 _).symm (qs_held (t := q + 1) (by omega) hh2 (br_t rfl ?_)))))
  exact qs_guN (t := q + 1) (by omega) h6 (br_t rfl (qs_setB6 (br_t rfl (qs_setB10 (br_t rfl (qs_takeB (br_t rfl hpost)))))))
theorem qs_468 {post : Int32 → St0 → Prop} {mc ms kc ks : Nat} {st : Int32} {a4 : Nat → Int32} {q A1 A2 A3 A5 : Nat} (hq : q < 4) (h : qd_e2 q A1 A2 A3 A5 = true) (hpost : post 1 ()) : wL_lawOf_468 post mc ms (nI (q + 2)) 1 kc ks st (qd_f A1) (qd_f A2) (qd_f A3) a4 (qd_f A5) := by
  unfold qd_e2 at h
  obtain ⟨h3, h⟩ := qi_E h
  obtain ⟨h5, h⟩ := qi_E h
  rw [qi_f] at h
  obtain ⟨B2, hr, h⟩ := qi_b h
  obtain ⟨r2, hw, h⟩ := qi_b h
  obtain ⟨g2, h⟩ := qi_E h
  obtain ⟨k3, h⟩ := qi_E h
  obtain ⟨k0, h⟩ := qi_E h
  obtain ⟨r3, hd, h⟩ := qi_b h
  obtain ⟨g3, h⟩ := qi_E h
  rw [qi_f] at h
  obtain ⟨C2, hr2, h⟩ := qi_b h
  obtain ⟨r4, ho, h⟩ := qi_b h
  obtain ⟨g4, h⟩ := qi_E h
  rw [g2] at hw
  rw [g3] at hd
  rw [g4] at ho
  unfold wL_lawOf_468
  rw [qn_p1 q, qn_p2 q, qn_sh (q + 1) (by omega), qn_pw q]
  refine qs_guW (t := q + 1) (l := q) (by omega) (by omega) h3 hr ?_
  refine br_f qs_one (br_f qs_one (qs_wai (l := q) (by omega) hw (br_t rfl (qs_wf (t := q + 1) (by omega) k3 (br_t rfl ?_)))))
  exact qs_takeW (t := 0) (l := q + 1) (h := q + 1) (by omega) (by omega) k0 h5 (by omega) hd hr2 (fun st' a4' => br_t rfl (qs_won (t := q + 1) (by omega) ho (br_t rfl (qs_555 hq h hpost))))
theorem qs_185x {post : Int32 → St0 → Prop} {mc ms kc ks f : Nat} {x6 x7 x8 b st : Int32} {a4 : Nat → Int32} {q A1 A2 A3 A5 L : Nat} (hq : q < 4) (hl : qd_lif A1 A2 7 0 0 = some L) (hr : qd_run A2 A3 7 0 0 = some 1) (h : qd_e1 q A1 A2 A3 A5 = true) (hpost : post 1 ()) : wL_lawOf_185 post mc ms (nI (q + 2)) x6 x7 x8 1 1 kc ks st (qd_f A1) (qd_f A2) (qd_f A3) a4 (qd_f A5) (f + 1) 1 b (nI L) (-1) := by
  unfold qd_e1 at h
  obtain ⟨h3, h⟩ := qi_E h
  obtain ⟨h5, h⟩ := qi_E h
  obtain ⟨r1, hd, h⟩ := qi_b h
  obtain ⟨g1, h⟩ := qi_E h
  obtain ⟨h1, h⟩ := qi_L h
  rw [g1] at hd
  refine br_t (by decide) (br_f qs_one (br_f qs_one (br_f qs_one (qs_lif hl (br_t rfl ?_)))))
  rw [qn_p1 q]
  exact qs_takeR (t := 0) (l := q + 1) (h := q + 1) (by omega) (by omega) h3 h5 (by omega) hd (br_t rfl (qs_run hr (br_t rfl (qs_giveN (t := 1) (l := 1) (by omega) (by omega) h1 (br_t rfl (qs_468 hq h hpost))))))
theorem qs_99x {post : Int32 → St0 → Prop} {mc ms kc ks f : Nat} {st : Int32} {a4 : Nat → Int32} {q u a w A3 A5 : Nat} (hq : q < 4) (hu : u < 10) (ha : a < q + 2) (hw : w < 10) (h : qd_chk q A3 A5 u a w = true) (hpost : post 1 ()) : wL_lawOf_99 post mc ms (nI (q + 2)) (nI u) (nI a) (nI w) kc ks (f + 1) 1 (nI 5) st (qd_f 0) (qd_f 0) (qd_f A3) a4 (qd_f A5) := by
  unfold qd_chk at h
  rw [qi_f] at h
  obtain ⟨B2, hr1, h⟩ := qi_b h
  rw [qi_f] at h
  obtain ⟨A2, hr2, h⟩ := qi_b h
  obtain ⟨L, h3, h⟩ := qi_b h
  obtain ⟨r1, hl, h⟩ := qi_b h
  obtain ⟨g1, h⟩ := qi_E h
  obtain ⟨r2, hr, h⟩ := qi_b h
  obtain ⟨g2, h⟩ := qi_E h
  rw [g1] at hl
  rw [g2] at hr
  refine br_t (nI_le (a := 5) (b := 5) (by omega) (by decide)) ?_
  rw [qn_p1 q]
  exact qs_setB (t := q + 1) (by omega) hu hr1 (qs_setB (t := a) (by omega) hw hr2 (nm_e ⟨6, qs_185 (p := q + 1) (by omega) hu (by omega) hw 6 (q + 2) 0 0 L (by omega) h3 (fun f b => qs_185x hq hl hr h hpost)⟩))
theorem qs_lawOf {post : Int32 → St0 → Prop} {p0 p1 p2 p3 : Int32} (hpost : post 1 ()) : wpL_lawOf post 22 352 () p0 p1 p2 p3 := by
  obtain ⟨q, hq, e0⟩ := pk_andE p0 (m := 3) 2 (by decide)
  obtain ⟨u, hu, e1⟩ := pk_andE p1 (m := 65535) 16 (by decide)
  obtain ⟨a, ha, e2⟩ := pk_andE p2 (m := 65535) 16 (by decide)
  obtain ⟨w, hw, e3⟩ := pk_andE p3 (m := 65535) 16 (by decide)
  have hq4 : q < 4 := hq
  have f5 : 2 + (p0 &&& 3) = nI (q + 2) := by
    rw [e0]
    show nI 2 + nI q = _
    rw [nI_add, Nat.add_comm]
  have f6 : (p1 &&& 65535) - (p1 &&& 65535) / 10 * 10 = nI (u % 10) := by
    rw [e1]
    exact pk_rem (d := 10) (by omega) (by omega) (by omega)
  have f7 : (p2 &&& 65535) - (p2 &&& 65535) / nI (q + 2) * nI (q + 2) = nI (a % (q + 2)) := by
    rw [e2]
    exact pk_rem (by omega) (by omega) (by omega)
  have f8 : (p3 &&& 65535) - (p3 &&& 65535) / 10 * 10 = nI (w % 10) := by
    rw [e3]
    exact pk_rem (d := 10) (by omega) (by omega) (by omega)
  have g6 : u % 10 < 10 := Nat.mod_lt _ (by omega)
  have g7 : a % (q + 2) < q + 2 := Nat.mod_lt _ (by omega)
  have g8 : w % 10 < 10 := Nat.mod_lt _ (by omega)
  refine ⟨by decide, by decide, 5, 29, by decide, by decide, qs_init (nm_r f5 ⟨by decide, nm_r f6 ⟨nI_ne0 (by omega) (by omega), nm_r f7 ⟨by decide, nm_r f8 ⟨6, ?_⟩⟩⟩⟩)⟩
  refine qs_49 (n := q + 2) (by omega) 6 0 0xFFFFF (qd_T5 q) (by omega) (qc_1 q hq4) ⟨5, ?_⟩
  exact qs_99 (n := q + 2) (by omega) 5 0 0 0xFFFFFF 0 (qd_T3 q) 0 (qd_f 0) (by omega) (qc_2 q hq4) (fun f st a4 => qs_99x hq4 g6 g7 g8 (qc_3 hq4 g6 g7 g8) hpost)
theorem qs_cell {post : Int32 → Prop} {L : Nat} {xs : Nat → Int32} {u : St0} (i : Nat) (hi : i < 4) (hL : L ≤ 4) (H : ∀ r, post r) : wpL_cellAt post L xs u (nI i) :=
  pk_le L i (fun _ => H 0) (fun z => ⟨vp_in_nI z (by omega), H _⟩) rfl rfl (by omega) (by omega)
theorem i_vc (xs : Nat → Int32) (L : Nat) (hL : L ≤ 4) : wpL_law (fun r => r = 1) L xs :=
  qs_cell 0 (by omega) hL (fun _ => qs_cell 1 (by omega) hL (fun _ => qs_cell 2 (by omega) hL (fun _ => qs_cell 3 (by omega) hL (fun _ => ⟨22, 352, by decide, by decide, qs_lawOf rfl⟩))))
end
