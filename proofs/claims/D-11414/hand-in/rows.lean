section
/-! Pure pictures: the divisor, the line, one bit. The rows bt, b_ext, b_or, b_and, b_0, s_l, b_sshr began as the kit's rows to paste. -/
def fd_dk : Nat → Int32 → Int32 → Int32
  | 0, m, _ => m
  | k + 1, m, n => if n = 0 then m else fd_dk k n (m - m / n * n)
/-- what divisor answers -/
def fd_dv (a b : Int32) : Int32 := fd_dk 24 (if 0 ≤ a then a else -a) (if 0 ≤ b then b else -b)
def fd_sg (a : Int32) : Int32 := if 0 ≤ a then 1 else -1
def fd_p (a u : Int32) : Int32 := if fd_dv a u ≤ 0 then 1 else (fd_sg a * a) / fd_dv a u
def fd_q (a u : Int32) : Int32 := if fd_dv a u ≤ 0 then 0 else (fd_sg a * u) / fd_dv a u
/-- a line of slope two, over every step across -/
theorem fd_tab : ∀ n, n < 201 → ¬ (nI n - 100 = 0) → ¬ (2 * (nI n - 100) = 0) ∧ fd_p (nI n - 100) (2 * (nI n - 100)) = 1 ∧ fd_q (nI n - 100) (2 * (nI n - 100)) = 2 := by decide +kernel
/-- the gap of two values, over every difference -/
theorem fd_gap : ∀ n, n < 401 → fd_dv 0 (nI n - 200) = (if 0 ≤ -(nI n - 200) then -(nI n - 200) else -(-(nI n - 200))) ∧ (fd_dv 0 (nI n - 200) = 0 ↔ nI n - 200 = 0) := by decide +kernel
theorem fd_dv00 : fd_dv 0 0 = 0 := by decide +kernel
/-- the script's values are values of the class -/
theorem fd_va : ∀ n, n < 101 → (¬ nI n - 50 < -100 ∧ ¬ 100 < nI n - 50) ∧ (¬ 2 * (nI n - 50) < -100 ∧ ¬ 100 < 2 * (nI n - 50)) := by decide +kernel
theorem fd_vc : ∀ n, n < 201 → ¬ nI n - 100 < -100 ∧ ¬ 100 < nI n - 100 := by decide +kernel
/-- two arrays are the same but at k -/
def fd_O (k : Nat) (a b : Nat → Int32) : Prop := ∀ j, j ≠ k → b j = a j
theorem fd_Ou {k : Nat} {a : Nat → Int32} {v : Int32} : fd_O k a (upd a k v) := fun _ h => pk_un h
theorem fd_Or {k : Nat} {a : Nat → Int32} : fd_O k a a := fun _ _ => rfl
theorem fd_Ot {k : Nat} {a b c : Nat → Int32} (h : fd_O k a b) (g : fd_O k b c) : fd_O k a c := fun j e => (g j e).trans (h j e)
/-- what takeLine does to one cell -/
def fd_L (s p q x y s' p' q' r' : Int32) : Prop :=
  (s = 0 → s' = 1 ∧ p' = x ∧ q' = y) ∧
  (s = 1 → (x - p = 0 → y - q = 0 → s' = 1) ∧ (¬ x - p = 0 → ¬ y - q = 0 → s' = 2 ∧ p' = fd_p (x - p) (y - q) ∧ q' = fd_q (x - p) (y - q) ∧ r' = p' * y - q' * x))
/-- what takeDifferent does to one variable of which no value or one is known -/
def fd_D (x : Nat) (v : Int32) (a6 a7 b6 b7 : Nat → Int32) : Prop :=
  (∀ j, j < x * 4 ∨ x * 4 + 3 < j → b6 j = a6 j) ∧ fd_O x a7 b7 ∧ (a7 x = 0 → b6 (x * 4) = v ∧ b7 x = 1) ∧
  (a7 x = 1 → (a6 (x * 4) = v → b7 x = 1) ∧ (¬ a6 (x * 4) = v → b7 x = 2))
section
def fd_bt (x : Int32) (i : Nat) : Bool := x.toBitVec.getLsbD i
theorem fd_ext {x y : Int32} (h : ∀ i, i < 32 → fd_bt x i = fd_bt y i) : x = y := Int32.toBitVec_inj.mp (BitVec.eq_of_getLsbD_eq (fun i hi => h i hi))
theorem fd_btor (x y : Int32) (i : Nat) : fd_bt (x ||| y) i = (fd_bt x i || fd_bt y i) := by unfold fd_bt; rw [Int32.toBitVec_or, BitVec.getLsbD_or]
theorem fd_btand (x y : Int32) (i : Nat) : fd_bt (x &&& y) i = (fd_bt x i && fd_bt y i) := by unfold fd_bt; rw [Int32.toBitVec_and, BitVec.getLsbD_and]
theorem fd_bt0 (i : Nat) : fd_bt 0 i = false := BitVec.getLsbD_zero
theorem fd_bt1 : ∀ i, i < 32 → fd_bt 1 i = decide (i = 0) := by decide +kernel
theorem fd_sl : ∀ n, n < 32 → ((nI n &&& 31).toBitVec.smod 32).toNat = n := by decide +kernel
theorem fd_sshr (n : Nat) (hn : n < 32) (x : Int32) {i : Nat} (hi : i < 32) : fd_bt (x >>> (nI n &&& 31)) i = if n + i < 32 then fd_bt x (n + i) else fd_bt x 31 := by
  unfold fd_bt
  rw [Int32.toBitVec_shiftRight]
  show (x.toBitVec.sshiftRight ((nI n &&& 31).toBitVec.smod 32).toNat).getLsbD i = _
  rw [fd_sl n hn, BitVec.getLsbD_sshiftRight, BitVec.msb_eq_getLsbD_last]
  simp [hi]
end
/-- bit 2 (the pair 0, 2) isn't set -/
def fd_b (w : Int32) : Prop := ((w >>> (nI 2 &&& 31)) &&& 1) = 0
theorem fd_b_bt (w : Int32) : fd_b w ↔ fd_bt w 2 = false := by
  unfold fd_b
  constructor
  · intro h
    have e := congrArg (fun z => fd_bt z 0) h
    rw [fd_btand, fd_sshr 2 (by omega) w (by omega), fd_bt0, fd_bt1 0 (by omega), if_pos (by omega)] at e
    simpa using e
  · intro h
    apply fd_ext
    intro i hi
    rw [fd_btand, fd_bt0, fd_bt1 i hi]
    by_cases z : i = 0
    · subst z
      rw [fd_sshr 2 (by omega) w (by omega), if_pos (by omega), h]
      rfl
    · simp [z]
theorem fd_b_or (w m : Int32) : fd_b (w ||| m) ↔ fd_b w ∧ fd_b m := by
  rw [fd_b_bt, fd_b_bt, fd_b_bt, fd_btor, Bool.or_eq_false_iff]
theorem fd_b_0 : fd_b 0 := by unfold fd_b; decide +kernel
theorem fd_b_c : ∀ c, c < 16 → (fd_b ((1 : Int32) <<< (nI c &&& 31)) ↔ c ≠ 2) := by unfold fd_b; decide +kernel
/-- a bit that is set if a comparison fails -/
theorem fd_b_if {w : Int32} {c : Nat} (hc : c < 16) {P : Prop} {m : Int32} (ht : P → m = 0) (hf : ¬ P → m = (1 : Int32) <<< (nI c &&& 31)) : fd_b (w ||| m) ↔ fd_b w ∧ (c = 2 → P) := by
  rw [fd_b_or]
  by_cases h : P
  · rw [ht h]
    exact ⟨fun g => ⟨g.1, fun _ => h⟩, fun g => ⟨g.1, fd_b_0⟩⟩
  · rw [hf h, fd_b_c c hc]
    exact ⟨fun g => ⟨g.1, fun z => absurd z g.2⟩, fun g => ⟨g.1, fun z => h (g.2 z)⟩⟩
end
section
/-! divisor, draw, takeLine, takeSums -/
theorem fd_d25 {post : Int32 → Prop} : ∀ (k i : Nat) (m n : Int32), i + k = 24 → post (fd_dk k m n) → wX_divisor_25 post (k + 1) m n (nI i) := by
  intro k
  induction k with
  | zero =>
    intro i m n hi H
    obtain rfl : i = 24 := by omega
    exact pk_le 24 24 (fun _ => H) (fun z => absurd z (by omega))
  | succ k ih =>
    intro i m n hi H
    unfold fd_dk at H
    refine pk_le 24 i (fun z => absurd z (by omega)) (fun _ => br_c (fun e => ?_) (fun e => ⟨e, nm_e (nm_r (nI_1 i) (ih (i + 1) n _ (by omega) ?_))⟩))
    · rw [if_pos e] at H
      exact H
    · rw [if_neg e] at H
      exact H
theorem fd_d10 {post : Int32 → Prop} {m b : Int32} (H : post (fd_dk 24 m (if 0 ≤ b then b else -b))) : wX_divisor_10 post b m := by
  refine br_c (fun e => ⟨25, ?_⟩) (fun e => nm_e ⟨25, ?_⟩)
  · rw [if_pos e] at H
    exact fd_d25 24 0 m b rfl H
  · rw [if_neg e] at H
    exact fd_d25 24 0 m (-b) rfl H
theorem fd_divisor {post : Int32 → Prop} {a b : Int32} (H : post (fd_dv a b)) : wpX_divisor post () a b := by
  unfold fd_dv at H
  refine br_c (fun e => fd_d10 ?_) (fun e => fd_d10 ?_)
  · rw [if_pos e] at H
    exact H
  · rw [if_neg e] at H
    exact H
theorem fd_d0 {d : Int32} (h : ¬ d ≤ 0) : ¬ d = 0 := by
  intro e
  apply h
  rw [e]
  decide
theorem fd_draw {cn nl gr un al ab : Int32} {sb : Int64} {a1 a2 a3 a4 a5 a6 a7 a8 a9 a10 a11 a12 : Nat → Int32} {post : St2 → Prop} {C ac up x y : Int32} (hC : vp_in C 16)
    (H : post (cn, nl, gr, un, al, ab, sb, a1, a2, a3, a4, a5, a6, a7, upd a8 C.toNatClampNeg 2, upd a9 C.toNatClampNeg (fd_p ac up), upd a10 C.toNatClampNeg (fd_q ac up), upd a11 C.toNatClampNeg (fd_p ac up * y - fd_q ac up * x), a12)) :
    wpX_draw post (cn, nl, gr, un, al, ab, sb, a1, a2, a3, a4, a5, a6, a7, a8, a9, a10, a11, a12) C ac up x y := by
  have h34 : ∀ p, p = fd_p ac up → wX_draw_34 post C up x y (fd_dv ac up) (fd_sg ac) p cn nl gr un al ab sb a1 a2 a3 a4 a5 a6 a7 a8 a9 a10 a11 a12 := by
    intro p ep
    rw [← ep] at H
    unfold fd_q at H
    refine br_c (fun e => ?_) (fun e => ⟨fd_d0 e, ?_⟩)
    · rw [if_pos e] at H
      exact ⟨hC, nm_e ⟨hC, nm_e ⟨hC, nm_e ⟨hC, nm_e H⟩⟩⟩⟩
    · rw [if_neg e] at H
      exact ⟨hC, nm_e ⟨hC, nm_e ⟨hC, nm_e ⟨hC, nm_e H⟩⟩⟩⟩
  have h16 : wX_draw_16 post C ac up x y (fd_dv ac up) (fd_sg ac) cn nl gr un al ab sb a1 a2 a3 a4 a5 a6 a7 a8 a9 a10 a11 a12 :=
    br_c (fun e => h34 1 (by unfold fd_p; rw [if_pos e])) (fun e => ⟨fd_d0 e, h34 _ (by unfold fd_p; rw [if_neg e])⟩)
  refine fd_divisor (br_c (fun e => ?_) (fun e => ?_))
  · rw [show fd_sg ac = 1 from if_pos e] at h16
    exact h16
  · rw [show fd_sg ac = -1 from if_neg e] at h16
    exact h16
theorem fd_line {cn nl gr un al ab : Int32} {sb : Int64} {a1 a2 a3 a4 a5 a6 a7 a8 a9 a10 a11 a12 : Nat → Int32} {post : St2 → Prop} {C x y : Int32} (hC : vp_in C 16)
    (H : ∀ b8 b9 b10 b11 : Nat → Int32, fd_O C.toNatClampNeg a8 b8 → fd_O C.toNatClampNeg a9 b9 → fd_O C.toNatClampNeg a10 b10 → fd_O C.toNatClampNeg a11 b11 →
      fd_L (a8 C.toNatClampNeg) (a9 C.toNatClampNeg) (a10 C.toNatClampNeg) x y (b8 C.toNatClampNeg) (b9 C.toNatClampNeg) (b10 C.toNatClampNeg) (b11 C.toNatClampNeg) →
      post (cn, nl, gr, un, al, ab, sb, a1, a2, a3, a4, a5, a6, a7, b8, b9, b10, b11, a12)) :
    wpX_takeLine post (cn, nl, gr, un, al, ab, sb, a1, a2, a3, a4, a5, a6, a7, a8, a9, a10, a11, a12) C x y := by
  refine ⟨hC, br_c (fun e => ⟨hC, nm_e ⟨hC, nm_e ⟨hC, nm_e ?_⟩⟩⟩) (fun e => ⟨hC, br_c (fun e1 => ⟨hC, nm_e ⟨hC, nm_e ?_⟩⟩) (fun e1 => ⟨hC, ?_⟩)⟩)⟩
  · exact H _ _ _ _ fd_Ou fd_Ou fd_Ou fd_Or ⟨fun _ => ⟨pk_us, pk_us, pk_us⟩, fun z => absurd (e.symm.trans z) (by decide)⟩
  · have h87 : ¬ (¬ x - a9 C.toNatClampNeg = 0 ∧ ¬ y - a10 C.toNatClampNeg = 0) → wX_takeLine_87 post C (x - a9 C.toNatClampNeg) (y - a10 C.toNatClampNeg) cn nl gr un al ab sb a1 a2 a3 a4 a5 a6 a7 a8 a9 a10 a11 a12 := by
      intro hn
      have h3 : ¬ (x - a9 C.toNatClampNeg = 0 ∧ y - a10 C.toNatClampNeg = 0) → post (cn, nl, gr, un, al, ab, sb, a1, a2, a3, a4, a5, a6, a7, upd a8 C.toNatClampNeg 3, a9, a10, a11, a12) := fun hm =>
        H _ _ _ _ fd_Ou fd_Or fd_Or fd_Or ⟨fun z => absurd z e, fun _ => ⟨fun z w => absurd ⟨z, w⟩ hm, fun z w => absurd ⟨z, w⟩ hn⟩⟩
      exact br_c (fun z => br_c (fun w => H _ _ _ _ fd_Or fd_Or fd_Or fd_Or ⟨fun z => absurd z e, fun _ => ⟨fun _ _ => e1, fun g _ => absurd z g⟩⟩) (fun w => ⟨hC, nm_e (h3 (fun t => w t.2))⟩))
        (fun z => ⟨hC, nm_e (h3 (fun t => z t.1))⟩)
    refine br_c (fun z => h87 (fun t => t.1 z)) (fun z => br_c (fun w => h87 (fun t => t.2 w)) (fun w => fd_draw hC ?_))
    exact H _ _ _ _ fd_Ou fd_Ou fd_Ou fd_Ou ⟨fun g => absurd g e, fun _ => ⟨fun g _ => absurd g z, fun _ _ => ⟨pk_us, pk_us, pk_us, by rw [pk_us, pk_us, pk_us]⟩⟩⟩
  · have hu : ∀ b8, fd_O C.toNatClampNeg a8 b8 → post (cn, nl, gr, un, al, ab, sb, a1, a2, a3, a4, a5, a6, a7, b8, a9, a10, a11, a12) := fun b8 o => H _ _ _ _ o fd_Or fd_Or fd_Or ⟨fun z => absurd z e, fun z => absurd z e1⟩
    exact br_c (fun e2 => ⟨hC, hC, hC, br_c (fun _ => hu _ fd_Or) (fun _ => ⟨hC, nm_e (hu _ fd_Ou)⟩)⟩) (fun e2 => hu _ fd_Or)
theorem fd_sums {cn nl gr un al ab : Int32} {sb : Int64} {a1 a2 a3 a4 a5 a6 a7 a8 a9 a10 a11 a12 : Nat → Int32} {post : St2 → Prop} (H : ∀ sb' : Int64, post (cn, nl, gr, un, al, ab, sb', a1, a2, a3, a4, a5, a6, a7, a8, a9, a10, a11, a12)) : wpX_takeSums post (cn, nl, gr, un, al, ab, sb, a1, a2, a3, a4, a5, a6, a7, a8, a9, a10, a11, a12) := by
  refine pk_loop (fun n i s => wX_takeSums_2 post cn nl gr un al ab a1 a2 a3 a4 a5 a6 a7 a8 a9 a10 a11 a12 n (nI i) s) (fun _ _ => True) 64 0 sb (by omega) trivial
    (fun n s _ => pk_le 64 64 (fun _ => H s) (fun z => absurd z (by omega)))
    (fun n i s hi _ hw => pk_le 64 i (fun z => absurd z (by omega)) (fun _ => ⟨?_, pk_andIn _ 2 (by decide) (by decide), nm_e ⟨pk_andIn _ 2 (by decide) (by decide),
      br_c (fun _ => nm_r (nI_1 i) (hw s trivial)) (fun _ => nm_e (nm_r (nI_1 i) (hw _ trivial)))⟩⟩))
  rw [pk_shrN (show i < 2 ^ 31 by omega) _ 4 (by decide)]
  exact vp_in_nI (by omega) (by omega)
end
section
/-! takeDifferent and takeValue -/
theorem fd_ix {x k : Nat} : nI x * 4 + nI k = nI (x * 4 + k) := by
  rw [show (4 : Int32) = nI 4 from rfl, pk_mul, nI_add]
theorem fd_111 {cn nl gr un al ab : Int32} {sb : Int64} {a1 a2 a3 a4 a5 a6 a7 a8 a9 a10 a11 a12 : Nat → Int32} {post : St2 → Prop} {x : Nat} {v : Int32} (k : Nat) (hx : x < 4) (hk : k < 4)
    (H : post (cn, nl, gr, un, al, ab, sb, a1, a2, a3, a4, a5, upd a6 (x * 4 + k) v, upd a7 x ((a7 x + 1).toInt8.toInt32), a8, a9, a10, a11, a12)) : wX_takeDifferent_111 post (nI x) v (nI k) cn nl gr un al ab sb a1 a2 a3 a4 a5 a6 a7 a8 a9 a10 a11 a12 := by
  unfold wX_takeDifferent_111
  rw [fd_ix, nI_clamp (show x * 4 + k < 2 ^ 31 by omega), nI_clamp (show x < 2 ^ 31 by omega)]
  exact ⟨vp_in_nI (by omega) (by omega), nm_e ⟨vp_in_nI hx (by omega), vp_in_nI hx (by omega), nm_e H⟩⟩
theorem fd_diff {cn nl gr un al ab : Int32} {sb : Int64} {a1 a2 a3 a4 a5 a6 a7 a8 a9 a10 a11 a12 : Nat → Int32} {post : St2 → Prop} {x : Nat} {v : Int32} (hx : x < 4) (h7 : a7 x = 0 ∨ a7 x = 1)
    (H : ∀ b6 b7 : Nat → Int32, fd_D x v a6 a7 b6 b7 → post (cn, nl, gr, un, al, ab, sb, a1, a2, a3, a4, a5, b6, b7, a8, a9, a10, a11, a12)) : wpX_takeDifferent post (cn, nl, gr, un, al, ab, sb, a1, a2, a3, a4, a5, a6, a7, a8, a9, a10, a11, a12) (nI x) v := by
  have ex : (nI x).toNatClampNeg = x := nI_clamp (by omega)
  have ix : vp_in (nI x) 4 := vp_in_nI hx (by omega)
  rcases h7 with h | h
  · refine ⟨ix, nm_r (e' := nI 0) (by rw [ex, h]; rfl) ⟨1, pk_le 0 0 (fun _ => pk_lt 0 3 (fun _ => ⟨1, pk_le 0 0 (fun _ => fd_111 0 hx (by omega) (H _ _ ?_)) (fun z => absurd z (by omega))⟩) (fun z => absurd z (by omega))) (fun z => absurd z (by omega))⟩⟩
    refine ⟨fun j hj => pk_un (by omega), fd_Ou, fun _ => ⟨pk_us, ?_⟩, fun z => absurd (h.symm.trans z) (by decide)⟩
    rw [pk_us, h]
    decide
  · have e0 : nI x * 4 + nI 0 = nI (x * 4) := fd_ix
    have c0 : (nI x * 4 + nI 0).toNatClampNeg = x * 4 := by rw [e0]; exact nI_clamp (by omega)
    have i0 : vp_in (nI x * 4 + nI 0) 16 := by rw [e0]; exact vp_in_nI (by omega) (by omega)
    have e1 : nI x * 4 + nI 1 = nI (x * 4 + 1) := fd_ix
    have i1 : vp_in (nI x * 4 + nI 1) 16 := by rw [e1]; exact vp_in_nI (by omega) (by omega)
    have c1 : (nI x * 4 + nI 1).toNatClampNeg = x * 4 + 1 := by rw [e1]; exact nI_clamp (by omega)
    have i2 : vp_in (nI x * 4 + nI 1 - 1) 16 := by rw [e1, nI_pred]; exact vp_in_nI (by omega) (by omega)
    have n2 : ((a7 x + 1).toInt8.toInt32) = 2 := by rw [h]; decide
    have hD : ∀ b6 : Nat → Int32, (∀ j, j < x * 4 ∨ x * 4 + 3 < j → b6 j = a6 j) → ¬ a6 (x * 4) = v → fd_D x v a6 a7 b6 (upd a7 x ((a7 x + 1).toInt8.toInt32)) := fun b6 o e =>
      ⟨o, fd_Ou, fun z => absurd (h.symm.trans z) (by decide), fun _ => ⟨fun z => absurd z e, fun _ => by rw [pk_us, n2]⟩⟩
    refine ⟨ix, nm_r (e' := nI 1) (by rw [ex, h]; rfl) ⟨2, pk_le 1 0 (fun z => absurd z (by omega)) (fun _ => pk_le 4 1 (fun z => absurd z (by omega)) (fun _ => ⟨i0, br_c (fun e => ?_) (fun e => nm_r (nI_1 0) ?_)⟩))⟩⟩
    · have e' : a6 (nI x * 4 + nI 0).toNatClampNeg = v := e
      rw [c0] at e'
      exact H _ _ ⟨fun _ _ => rfl, fd_Or, fun z => absurd (h.symm.trans z) (by decide), fun _ => ⟨fun _ => h, fun z => absurd e' z⟩⟩
    · have e' : ¬ a6 (nI x * 4 + nI 0).toNatClampNeg = v := e
      rw [c0] at e'
      refine pk_le 1 1 (fun _ => pk_lt 1 3 (fun _ => ⟨2, pk_le 1 0 (fun z => absurd z (by omega)) (fun _ => ⟨i2, br_c (fun g => ?_) (fun g => ⟨i2, i1, nm_r (e' := upd a6 (x * 4 + 1) (a6 (nI x * 4 + nI 1 - 1).toNatClampNeg)) (by rw [c1]) (nm_r (pk_m1 0) ?_)⟩)⟩)⟩) (fun z => absurd z (by omega))) (fun z => absurd z (by omega))
      · exact fd_111 1 hx (by omega) (H _ _ (hD _ (fun j hj => pk_un (by omega)) e'))
      · exact pk_le 0 0 (fun _ => fd_111 0 hx (by omega) (H _ _ (hD _ (fun j hj => by rw [pk_un (by omega), pk_un (by omega)]) e'))) (fun z => absurd z (by omega))
theorem fd_v86 {cn nl gr un al ab : Int32} {sb : Int64} {a1 a2 a3 a4 a5 a6 a7 a8 a9 a10 a11 a12 : Nat → Int32} {post : St2 → Prop} {x : Nat} {v w : Int32} (hx : x < 4) (h7 : a7 x = 0 ∨ a7 x = 1)
    (H : ∀ b4 b5 b6 b7 : Nat → Int32, fd_O x a5 b5 → b5 x = fd_dv (a5 x) (v - a2 x) → fd_D x v a6 a7 b6 b7 → post (cn, nl, gr, un, al, ab, sb, a1, a2, a3, b4, b5, b6, b7, a8, a9, a10, a11, a12)) :
    wX_takeValue_86 post (nI x) v w (nI x) cn nl gr un al ab sb a1 a2 a3 a4 a5 a6 a7 a8 a9 a10 a11 a12 := by
  have ix : vp_in (nI x) 4 := vp_in_nI hx (by omega)
  unfold wX_takeValue_86
  rw [nI_clamp (show x < 2 ^ 31 by omega)]
  exact ⟨ix, nm_e ⟨ix, ix, fd_divisor ⟨ix, nm_e (fd_diff hx h7 (fun b6 b7 hD => H _ _ b6 b7 fd_Ou pk_us hD))⟩⟩⟩
theorem fd_v60 {cn nl gr un al ab : Int32} {sb : Int64} {a1 a2 a3 a4 a5 a6 a7 a8 a9 a10 a11 a12 : Nat → Int32} {post : St2 → Prop} {x : Nat} {v w : Int32} (hx : x < 4) (h7 : a7 x = 0 ∨ a7 x = 1)
    (H : ∀ b4 b5 b6 b7 : Nat → Int32, fd_O x a5 b5 → b5 x = fd_dv (a5 x) (v - a2 x) → fd_D x v a6 a7 b6 b7 → post (cn, nl, gr, un, al, ab, sb, a1, a2, upd a3 x w, b4, b5, b6, b7, a8, a9, a10, a11, a12)) :
    wX_takeValue_60 post (nI x) v w (nI x) cn nl gr un al ab sb a1 a2 a3 a4 a5 a6 a7 a8 a9 a10 a11 a12 := by
  have ix : vp_in (nI x) 4 := vp_in_nI hx (by omega)
  unfold wX_takeValue_60
  rw [nI_clamp (show x < 2 ^ 31 by omega)]
  exact ⟨ix, nm_e ⟨ix, br_c (fun _ => ⟨ix, fd_v86 hx h7 H⟩) (fun _ => fd_v86 hx h7 H)⟩⟩
theorem fd_v35 {cn nl gr un al ab : Int32} {sb : Int64} {a1 a2 a3 a4 a5 a6 a7 a8 a9 a10 a11 a12 : Nat → Int32} {post : St2 → Prop} {x : Nat} {v : Int32} (hx : x < 4) (h7 : a7 x = 0 ∨ a7 x = 1)
    (H : ∀ b3 b4 b5 b6 b7 : Nat → Int32, fd_O x a3 b3 → b3 x = (if a3 x ≤ v then a3 x else v) → fd_O x a5 b5 → b5 x = fd_dv (a5 x) (v - a2 x) → fd_D x v a6 a7 b6 b7 → post (cn, nl, gr, un, al, ab, sb, a1, a2, b3, b4, b5, b6, b7, a8, a9, a10, a11, a12)) :
    wX_takeValue_35 post (nI x) v cn nl gr un al ab sb a1 a2 a3 a4 a5 a6 a7 a8 a9 a10 a11 a12 := by
  have ix : vp_in (nI x) 4 := vp_in_nI hx (by omega)
  unfold wX_takeValue_35
  rw [nI_clamp (show x < 2 ^ 31 by omega)]
  exact ⟨ix, br_c (fun e => ⟨ix, fd_v60 hx h7 (fun b4 b5 b6 b7 => H _ b4 b5 b6 b7 fd_Ou (by rw [pk_us, if_pos e]))⟩) (fun e => fd_v60 hx h7 (fun b4 b5 b6 b7 => H _ b4 b5 b6 b7 fd_Ou (by rw [pk_us, if_neg e])))⟩
/-- the first sample -/
theorem fd_tv0 {cn nl gr un al ab : Int32} {sb : Int64} {a1 a2 a3 a4 a5 a6 a7 a8 a9 a10 a11 a12 : Nat → Int32} {post : St2 → Prop} {x : Nat} {v : Int32} (hx : x < 4) (h0 : cn = 0) (h7 : a7 x = 0 ∨ a7 x = 1)
    (H : ∀ b2 b3 b4 b5 b6 b7 : Nat → Int32, fd_O x a2 b2 → b2 x = v → fd_O x a3 b3 → b3 x = v → fd_O x a5 b5 → b5 x = 0 → fd_D x v a6 a7 b6 b7 → post (cn, nl, gr, un, al, ab, sb, a1, b2, b3, b4, b5, b6, b7, a8, a9, a10, a11, a12)) :
    wpX_takeValue post (cn, nl, gr, un, al, ab, sb, a1, a2, a3, a4, a5, a6, a7, a8, a9, a10, a11, a12) (nI x) v := by
  have ix : vp_in (nI x) 4 := vp_in_nI hx (by omega)
  have ex : (nI x).toNatClampNeg = x := nI_clamp (by omega)
  refine br_t h0 ⟨ix, nm_r (e' := upd a2 x v) (by rw [ex]) ⟨ix, nm_r (e' := upd a3 x v) (by rw [ex]) ⟨ix, nm_e ⟨ix, nm_r (e' := upd a5 x 0) (by rw [ex]) (fd_v35 hx h7 ?_)⟩⟩⟩⟩
  intro b3 b4 b5 b6 b7 o3 e3 o5 e5 hD
  refine H _ b3 b4 b5 b6 b7 fd_Ou pk_us (fd_Ot fd_Ou o3) ?_ (fd_Ot fd_Ou o5) ?_ hD
  · rw [e3, pk_us]
    exact ite_self v
  · rw [e5, pk_us, pk_us, Int32.sub_self]
    exact fd_dv00
/-- a later sample -/
theorem fd_tv1 {cn nl gr un al ab : Int32} {sb : Int64} {a1 a2 a3 a4 a5 a6 a7 a8 a9 a10 a11 a12 : Nat → Int32} {post : St2 → Prop} {x : Nat} {v : Int32} (hx : x < 4) (h0 : ¬ cn = 0) (h7 : a7 x = 0 ∨ a7 x = 1)
    (H : ∀ b3 b4 b5 b6 b7 : Nat → Int32, fd_O x a3 b3 → b3 x = (if a3 x ≤ v then a3 x else v) → fd_O x a5 b5 → b5 x = fd_dv (a5 x) (v - a2 x) → fd_D x v a6 a7 b6 b7 → post (cn, nl, gr, un, al, ab, sb, a1, a2, b3, b4, b5, b6, b7, a8, a9, a10, a11, a12)) :
    wpX_takeValue post (cn, nl, gr, un, al, ab, sb, a1, a2, a3, a4, a5, a6, a7, a8, a9, a10, a11, a12) (nI x) v := br_f h0 (fd_v35 hx h7 H)
end
section
/-! takePair -/
theorem fd_p186 {cn nl gr un al ab : Int32} {sb : Int64} {a1 a2 a3 a4 a5 a6 a7 a8 a9 a10 a11 a12 : Nat → Int32} {post : St2 → Prop} {x y c : Nat} (hx : x < 4) (hy : y < 4) (hc : c < 16)
    (H : ∀ b8 b9 b10 b11 : Nat → Int32, fd_O c a8 b8 → fd_O c a9 b9 → fd_O c a10 b10 → fd_O c a11 b11 →
      fd_L (a8 c) (a9 c) (a10 c) (a1 x) (a1 y) (b8 c) (b9 c) (b10 c) (b11 c) → post (cn, nl, gr, un, al, ab, sb, a1, a2, a3, a4, a5, a6, a7, b8, b9, b10, b11, a12)) :
    wX_takePair_186 post (nI x) (nI y) (nI c) cn nl gr un al ab sb a1 a2 a3 a4 a5 a6 a7 a8 a9 a10 a11 a12 := by
  unfold wX_takePair_186
  rw [nI_clamp (show x < 2 ^ 31 by omega), nI_clamp (show y < 2 ^ 31 by omega)]
  refine ⟨vp_in_nI hx (by omega), vp_in_nI hy (by omega), fd_line (vp_in_nI hc (by omega)) ?_⟩
  rw [nI_clamp (show c < 2 ^ 31 by omega)]
  exact H
/-- what the pair's tail must give -/
def fd_H (post : St2 → Prop) (x y c : Nat) (bi : Int32) (cn nl gr un al ab : Int32) (sb : Int64) (a1 a2 a3 a4 a5 a6 a7 a8 a9 a10 a11 a12 : Nat → Int32) : Prop :=
  ∀ (al' ab' : Int32) (b8 b9 b10 b11 b12 : Nat → Int32), fd_O c a8 b8 → fd_O c a9 b9 → fd_O c a10 b10 → fd_O c a11 b11 → fd_O c a12 b12 →
    (cn = 0 → ab' = ab ∧ b12 c = a1 y - a1 x) → (¬ cn = 0 → b12 c = a12 c ∧ ab' = ab ||| (if a1 y - a1 x = a12 c then 0 else bi)) →
    fd_L (a8 c) (a9 c) (a10 c) (a1 x) (a1 y) (b8 c) (b9 c) (b10 c) (b11 c) → post (cn, nl, gr, un, al', ab', sb, a1, a2, a3, a4, a5, a6, a7, b8, b9, b10, b11, b12)
theorem fd_or0 (w : Int32) : w ||| 0 = w := by
  apply fd_ext
  intro i _
  rw [fd_btor, fd_bt0, Bool.or_false]
theorem fd_p127 {cn nl gr un al ab : Int32} {sb : Int64} {a1 a2 a3 a4 a5 a6 a7 a8 a9 a10 a11 a12 : Nat → Int32} {post : St2 → Prop} {x y c : Nat} {bi z0 z1 : Int32} (hx : x < 4) (hy : y < 4) (hc : c < 16) (H : fd_H post x y c bi cn nl gr un al ab sb a1 a2 a3 a4 a5 a6 a7 a8 a9 a10 a11 a12) :
    wX_takePair_127 post (nI x) (nI y) (nI c) bi z0 z1 cn nl gr un al ab sb a1 a2 a3 a4 a5 a6 a7 a8 a9 a10 a11 a12 := by
  have ix : vp_in (nI x) 4 := vp_in_nI hx (by omega)
  have iy : vp_in (nI y) 4 := vp_in_nI hy (by omega)
  have ic : vp_in (nI c) 16 := vp_in_nI hc (by omega)
  have ex : (nI x).toNatClampNeg = x := nI_clamp (by omega)
  have ey : (nI y).toNatClampNeg = y := nI_clamp (by omega)
  have ec : (nI c).toNatClampNeg = c := nI_clamp (by omega)
  refine nm_e ⟨iy, ix, nm_r (e' := a1 y - a1 x) (by rw [ex, ey]) (br_c (fun e => ⟨ic, nm_r (e' := upd a12 c (a1 y - a1 x)) (by rw [ec]) (fd_p186 hx hy hc ?_)⟩)
    (fun e => ⟨ic, br_c (fun e2 => fd_p186 hx hy hc ?_) (fun e2 => nm_e (fd_p186 hx hy hc ?_))⟩))⟩
  · intro b8 b9 b10 b11 o8 o9 o10 o11 l
    exact H _ _ b8 b9 b10 b11 _ o8 o9 o10 o11 fd_Ou (fun _ => ⟨rfl, pk_us⟩) (fun z => absurd e z) l
  · intro b8 b9 b10 b11 o8 o9 o10 o11 l
    rw [ec] at e2
    exact H _ _ b8 b9 b10 b11 _ o8 o9 o10 o11 fd_Or (fun z => absurd z e) (fun _ => ⟨rfl, by rw [if_pos e2, fd_or0]⟩) l
  · intro b8 b9 b10 b11 o8 o9 o10 o11 l
    rw [ec] at e2
    exact H _ _ b8 b9 b10 b11 _ o8 o9 o10 o11 fd_Or (fun z => absurd z e) (fun _ => ⟨rfl, by rw [if_neg e2]⟩) l
theorem fd_p97 {cn nl gr un al ab : Int32} {sb : Int64} {a1 a2 a3 a4 a5 a6 a7 a8 a9 a10 a11 a12 : Nat → Int32} {post : St2 → Prop} {x y c : Nat} {bi z0 z1 : Int32} (hx : x < 4) (hy : y < 4) (hc : c < 16) (H : ∀ un', fd_H post x y c bi cn nl gr un' al ab sb a1 a2 a3 a4 a5 a6 a7 a8 a9 a10 a11 a12) :
    wX_takePair_97 post (nI x) (nI y) (nI c) bi z0 z1 cn nl gr un al ab sb a1 a2 a3 a4 a5 a6 a7 a8 a9 a10 a11 a12 :=
  nm_e ⟨vp_in_nI hx (by omega), vp_in_nI hy (by omega), br_c (fun _ => fd_p127 hx hy hc (H _)) (fun _ => fd_p127 hx hy hc (H _))⟩
theorem fd_p67 {cn nl gr un al ab : Int32} {sb : Int64} {a1 a2 a3 a4 a5 a6 a7 a8 a9 a10 a11 a12 : Nat → Int32} {post : St2 → Prop} {x y c : Nat} {bi z0 z1 : Int32} (hx : x < 4) (hy : y < 4) (hc : c < 16) (H : ∀ un', fd_H post x y c bi cn nl (z1 ||| z0) un' al ab sb a1 a2 a3 a4 a5 a6 a7 a8 a9 a10 a11 a12) :
    wX_takePair_67 post (nI x) (nI y) (nI c) bi z0 z1 cn nl gr un al ab sb a1 a2 a3 a4 a5 a6 a7 a8 a9 a10 a11 a12 :=
  nm_e ⟨vp_in_nI hx (by omega), vp_in_nI hy (by omega), br_c (fun _ => fd_p97 hx hy hc H) (fun _ => fd_p97 hx hy hc H)⟩
theorem fd_p37 {cn nl gr un al ab : Int32} {sb : Int64} {a1 a2 a3 a4 a5 a6 a7 a8 a9 a10 a11 a12 : Nat → Int32} {post : St2 → Prop} {x y c : Nat} {bi z0 z1 : Int32} (hx : x < 4) (hy : y < 4) (hc : c < 16)
    (H : ∀ nl' un', fd_H post x y c bi cn nl' (gr ||| (if a1 x ≤ a1 y then 0 else bi)) un' al ab sb a1 a2 a3 a4 a5 a6 a7 a8 a9 a10 a11 a12) :
    wX_takePair_37 post (nI x) (nI y) (nI c) bi z0 z1 cn nl gr un al ab sb a1 a2 a3 a4 a5 a6 a7 a8 a9 a10 a11 a12 := by
  have ex : (nI x).toNatClampNeg = x := nI_clamp (by omega)
  have ey : (nI y).toNatClampNeg = y := nI_clamp (by omega)
  refine nm_e ⟨vp_in_nI hx (by omega), vp_in_nI hy (by omega), br_c (fun e => fd_p67 hx hy hc (fun un' => ?_)) (fun e => fd_p67 hx hy hc (fun un' => ?_))⟩
  · rw [ex, ey] at e
    have h := H (z1 ||| z0) un'
    rw [if_pos e] at h
    exact h
  · rw [ex, ey] at e
    have h := H (z1 ||| z0) un'
    rw [if_neg e] at h
    exact h
theorem fd_pair {cn nl gr un al ab : Int32} {sb : Int64} {a1 a2 a3 a4 a5 a6 a7 a8 a9 a10 a11 a12 : Nat → Int32} {post : St2 → Prop} {x y : Nat} (hx : x < 4) (hy : y < 4)
    (H : ∀ (nl' gr' un' al' ab' : Int32) (b8 b9 b10 b11 b12 : Nat → Int32), fd_O (4 * x + y) a8 b8 → fd_O (4 * x + y) a9 b9 → fd_O (4 * x + y) a10 b10 → fd_O (4 * x + y) a11 b11 → fd_O (4 * x + y) a12 b12 →
      (fd_b gr' ↔ fd_b gr ∧ (4 * x + y = 2 → a1 x ≤ a1 y)) →
      (cn = 0 → ab' = ab ∧ b12 (4 * x + y) = a1 y - a1 x) → (¬ cn = 0 → b12 (4 * x + y) = a12 (4 * x + y) ∧ (fd_b ab' ↔ fd_b ab ∧ (4 * x + y = 2 → a1 y - a1 x = a12 (4 * x + y)))) →
      fd_L (a8 (4 * x + y)) (a9 (4 * x + y)) (a10 (4 * x + y)) (a1 x) (a1 y) (b8 (4 * x + y)) (b9 (4 * x + y)) (b10 (4 * x + y)) (b11 (4 * x + y)) →
      post (cn, nl', gr', un', al', ab', sb, a1, a2, a3, a4, a5, a6, a7, b8, b9, b10, b11, b12)) :
    wpX_takePair post (cn, nl, gr, un, al, ab, sb, a1, a2, a3, a4, a5, a6, a7, a8, a9, a10, a11, a12) (nI x) (nI y) := by
  have hc : 4 * x + y < 16 := by omega
  have h37 : ∀ z0 z1, wX_takePair_37 post (nI x) (nI y) (nI (4 * x + y)) ((1 : Int32) <<< (nI (4 * x + y) &&& 31)) z0 z1 cn nl gr un al ab sb a1 a2 a3 a4 a5 a6 a7 a8 a9 a10 a11 a12 := by
    intro z0 z1
    refine fd_p37 hx hy hc (fun nl' un' al' ab' b8 b9 b10 b11 b12 o8 o9 o10 o11 o12 g0 g1 l => H nl' _ un' al' ab' b8 b9 b10 b11 b12 o8 o9 o10 o11 o12 ?_ g0 (fun z => ⟨(g1 z).1, ?_⟩) l)
    · exact fd_b_if hc (fun h => if_pos h) (fun h => if_neg h)
    · rw [(g1 z).2]
      exact fd_b_if hc (fun h => if_pos h) (fun h => if_neg h)
  refine nm_r (e' := nI (4 * x + y)) (by rw [show (4 : Int32) = nI 4 from rfl, pk_mul, nI_add]) (nm_e ⟨vp_in_nI hx (by omega), vp_in_nI hy (by omega), br_c (fun _ => h37 _ _) (fun _ => h37 _ _)⟩)
end
section
/-! sample: its two loops over any invariant, then the first and the second sample -/
theorem fd_97 {post : Int32 → St2 → Prop} {J : Int32 → Int32 → Int32 → Int32 → Int32 → Int32 → Int32 → Int64 → (Nat → Int32) → (Nat → Int32) → (Nat → Int32) → (Nat → Int32) → (Nat → Int32) → (Nat → Int32) → (Nat → Int32) → (Nat → Int32) → (Nat → Int32) → (Nat → Int32) → (Nat → Int32) → (Nat → Int32) → Prop}
    {x : Nat} (hx : x < 4) (I : Nat → St2 → Prop) (hs : ∀ s, I x s → I (x + 1) s)
    (hp : ∀ (y : Nat) (s : St2) (Q : St2 → Prop), y < 4 → y ≠ x → I y s → (∀ s', I (y + 1) s' → Q s') → wpX_takePair Q s (nI x) (nI y))
    (hJ : ∀ (cn nl gr un al ab : Int32) (sb : Int64) (a1 a2 a3 a4 a5 a6 a7 a8 a9 a10 a11 a12 : Nat → Int32), I 4 (cn, nl, gr, un, al, ab, sb, a1, a2, a3, a4, a5, a6, a7, a8, a9, a10, a11, a12) → J (nI (x + 1)) cn nl gr un al ab sb a1 a2 a3 a4 a5 a6 a7 a8 a9 a10 a11 a12) :
    ∀ (k y : Nat) (cn nl gr un al ab : Int32) (sb : Int64) (a1 a2 a3 a4 a5 a6 a7 a8 a9 a10 a11 a12 : Nat → Int32), y + k = 4 → I y (cn, nl, gr, un, al, ab, sb, a1, a2, a3, a4, a5, a6, a7, a8, a9, a10, a11, a12) → wX_sample_97 post J (nI x) (k + 1) (nI y) cn nl gr un al ab sb a1 a2 a3 a4 a5 a6 a7 a8 a9 a10 a11 a12 := by
  intro k
  induction k with
  | zero =>
    intro y cn nl gr un al ab sb a1 a2 a3 a4 a5 a6 a7 a8 a9 a10 a11 a12 hy h
    obtain rfl : y = 4 := by omega
    exact pk_le 4 4 (fun _ => nm_r (nI_1 x) (hJ cn nl gr un al ab sb a1 a2 a3 a4 a5 a6 a7 a8 a9 a10 a11 a12 h)) (fun z => absurd z (by omega))
  | succ k ih =>
    intro y cn nl gr un al ab sb a1 a2 a3 a4 a5 a6 a7 a8 a9 a10 a11 a12 hy h
    refine pk_le 4 y (fun z => absurd z (by omega)) (fun _ => pk_eq x y (fun e => nm_r (nI_1 y) (ih (y + 1) cn nl gr un al ab sb a1 a2 a3 a4 a5 a6 a7 a8 a9 a10 a11 a12 (by omega) ?_)) (fun e => hp y _ _ (by omega) (Ne.symm e) h (fun s' h' => ?_)))
    · subst e
      exact hs _ h
    · obtain ⟨cn, nl, gr, un, al, ab, sb, a1, a2, a3, a4, a5, a6, a7, a8, a9, a10, a11, a12⟩ := s'
      exact nm_r (nI_1 y) (ih (y + 1) cn nl gr un al ab sb a1 a2 a3 a4 a5 a6 a7 a8 a9 a10 a11 a12 (by omega) h')
theorem fd_75 {post : Int32 → St2 → Prop} (O : Nat → St2 → Prop) (N : Nat → Nat → St2 → Prop)
    (hv : ∀ (x : Nat) (cn nl gr un al ab : Int32) (sb : Int64) (a1 a2 a3 a4 a5 a6 a7 a8 a9 a10 a11 a12 : Nat → Int32) (Q : St2 → Prop), x < 4 → O x (cn, nl, gr, un, al, ab, sb, a1, a2, a3, a4, a5, a6, a7, a8, a9, a10, a11, a12) → (∀ s', N x 0 s' → Q s') → wpX_takeValue Q (cn, nl, gr, un, al, ab, sb, a1, a2, a3, a4, a5, a6, a7, a8, a9, a10, a11, a12) (nI x) (a1 x))
    (hs : ∀ x s, x < 4 → N x x s → N x (x + 1) s)
    (hp : ∀ (x y : Nat) (s : St2) (Q : St2 → Prop), x < 4 → y < 4 → y ≠ x → N x y s → (∀ s', N x (y + 1) s' → Q s') → wpX_takePair Q s (nI x) (nI y))
    (hn : ∀ x s, x < 4 → N x 4 s → O (x + 1) s)
    (hf : ∀ (cn nl gr un al ab : Int32) (sb : Int64) (a1 a2 a3 a4 a5 a6 a7 a8 a9 a10 a11 a12 : Nat → Int32) (sb' : Int64), O 4 (cn, nl, gr, un, al, ab, sb, a1, a2, a3, a4, a5, a6, a7, a8, a9, a10, a11, a12) → post (cn + 1) (cn + 1, nl, gr, un, al, ab, sb', a1, a2, a3, a4, a5, a6, a7, a8, a9, a10, a11, a12)) :
    ∀ (k x : Nat) (cn nl gr un al ab : Int32) (sb : Int64) (a1 a2 a3 a4 a5 a6 a7 a8 a9 a10 a11 a12 : Nat → Int32), x + k = 4 → O x (cn, nl, gr, un, al, ab, sb, a1, a2, a3, a4, a5, a6, a7, a8, a9, a10, a11, a12) → wX_sample_75 post (k + 1) (nI x) cn nl gr un al ab sb a1 a2 a3 a4 a5 a6 a7 a8 a9 a10 a11 a12 := by
  intro k
  induction k with
  | zero =>
    intro x cn nl gr un al ab sb a1 a2 a3 a4 a5 a6 a7 a8 a9 a10 a11 a12 hx h
    obtain rfl : x = 4 := by omega
    exact pk_le 4 4 (fun _ => fd_sums (fun sb' => nm_e (hf cn nl gr un al ab sb a1 a2 a3 a4 a5 a6 a7 a8 a9 a10 a11 a12 sb' h))) (fun z => absurd z (by omega))
  | succ k ih =>
    intro x cn nl gr un al ab sb a1 a2 a3 a4 a5 a6 a7 a8 a9 a10 a11 a12 hx h
    refine pk_le 4 x (fun z => absurd z (by omega)) (fun _ => ⟨vp_in_nI (by omega) (by omega), ?_⟩)
    rw [nI_clamp (show x < 2 ^ 31 by omega)]
    refine hv x cn nl gr un al ab sb a1 a2 a3 a4 a5 a6 a7 a8 a9 a10 a11 a12 _ (by omega) h (fun s' h' => ?_)
    clear h
    obtain ⟨cn, nl, gr, un, al, ab, sb, a1, a2, a3, a4, a5, a6, a7, a8, a9, a10, a11, a12⟩ := s'
    exact ⟨5, fd_97 (by omega) (N x) (fun s => hs x s (by omega)) (fun y s Q hy hne => hp x y s Q (by omega) hy hne)
      (fun cn nl gr un al ab sb a1 a2 a3 a4 a5 a6 a7 a8 a9 a10 a11 a12 hI => ih (x + 1) cn nl gr un al ab sb a1 a2 a3 a4 a5 a6 a7 a8 a9 a10 a11 a12 (by omega) (hn x _ (by omega) hI)) 4 0 cn nl gr un al ab sb a1 a2 a3 a4 a5 a6 a7 a8 a9 a10 a11 a12 rfl h'⟩
theorem fd_isv {post : Int32 → Prop} {p : Int32} (h : ¬ p < -100 ∧ ¬ 100 < p) (H : post 1) : wpX_isValue post () p := br_f h.1 (br_f h.2 H)
theorem fd_sample {cn nl gr un al ab : Int32} {sb : Int64} {a1 a2 a3 a4 a5 a6 a7 a8 a9 a10 a11 a12 : Nat → Int32} {post : Int32 → St2 → Prop} {p0 p1 p2 p3 : Int32} (O : Nat → St2 → Prop) (N : Nat → Nat → St2 → Prop)
    (hv : ∀ (x : Nat) (cn nl gr un al ab : Int32) (sb : Int64) (a1 a2 a3 a4 a5 a6 a7 a8 a9 a10 a11 a12 : Nat → Int32) (Q : St2 → Prop), x < 4 → O x (cn, nl, gr, un, al, ab, sb, a1, a2, a3, a4, a5, a6, a7, a8, a9, a10, a11, a12) → (∀ s', N x 0 s' → Q s') → wpX_takeValue Q (cn, nl, gr, un, al, ab, sb, a1, a2, a3, a4, a5, a6, a7, a8, a9, a10, a11, a12) (nI x) (a1 x))
    (hs : ∀ x s, x < 4 → N x x s → N x (x + 1) s)
    (hp : ∀ (x y : Nat) (s : St2) (Q : St2 → Prop), x < 4 → y < 4 → y ≠ x → N x y s → (∀ s', N x (y + 1) s' → Q s') → wpX_takePair Q s (nI x) (nI y))
    (hn : ∀ x s, x < 4 → N x 4 s → O (x + 1) s)
    (hf : ∀ (cn nl gr un al ab : Int32) (sb : Int64) (a1 a2 a3 a4 a5 a6 a7 a8 a9 a10 a11 a12 : Nat → Int32) (sb' : Int64), O 4 (cn, nl, gr, un, al, ab, sb, a1, a2, a3, a4, a5, a6, a7, a8, a9, a10, a11, a12) → post (cn + 1) (cn + 1, nl, gr, un, al, ab, sb', a1, a2, a3, a4, a5, a6, a7, a8, a9, a10, a11, a12))
    (hc : cn < 100) (h0 : ¬ p0 < -100 ∧ ¬ 100 < p0) (h1 : ¬ p1 < -100 ∧ ¬ 100 < p1) (h2 : ¬ p2 < -100 ∧ ¬ 100 < p2) (h3 : ¬ p3 < -100 ∧ ¬ 100 < p3)
    (hO : O 0 (cn, nl, gr, un, al, ab, sb, upd (upd (upd (upd a1 0 p0) 1 p1) 2 p2) 3 p3, a2, a3, a4, a5, a6, a7, a8, a9, a10, a11, a12)) : wpX_sample post (cn, nl, gr, un, al, ab, sb, a1, a2, a3, a4, a5, a6, a7, a8, a9, a10, a11, a12) p0 p1 p2 p3 := by
  unfold wpX_sample
  refine fd_isv h0 (br_f (by decide) (fd_isv h1 (br_f (by decide) (fd_isv h2 (br_f (by decide) (fd_isv h3 (br_f (by decide) (br_t hc (nm_e (nm_e (nm_e (nm_e ⟨5, ?_⟩))))))))))))
  exact fd_75 O N hv hs hp hn hf 4 0 cn nl gr un al ab sb (upd (upd (upd (upd a1 0 p0) 1 p1) 2 p2) 3 p3) a2 a3 a4 a5 a6 a7 a8 a9 a10 a11 a12 rfl hO
def fd_V (p0 p1 p2 p3 : Int32) (j : Nat) : Int32 := if j = 0 then p0 else if j = 1 then p1 else if j = 2 then p2 else p3
theorem fd_now {a1 : Nat → Int32} {p0 p1 p2 p3 : Int32} : ∀ j, j < 4 → upd (upd (upd (upd a1 0 p0) 1 p1) 2 p2) 3 p3 j = fd_V p0 p1 p2 p3 j := by
  intro j hj
  have h : j = 0 ∨ j = 1 ∨ j = 2 ∨ j = 3 := by omega
  rcases h with rfl | rfl | rfl | rfl <;> rfl
/-- the first sample: variables below x are taken -/
def fd_K1 (V : Nat → Int32) (x : Nat) (cn : Int32) (a1 a2 a3 a5 a6 a7 : Nat → Int32) : Prop :=
  cn = 0 ∧ (∀ j, j < 4 → a1 j = V j) ∧ (∀ j, j < 4 → j < x → a2 j = V j ∧ a3 j = V j ∧ a5 j = 0 ∧ a6 (j * 4) = V j ∧ a7 j = 1) ∧ (∀ j, j < 4 → x ≤ j → a7 j = 0)
theorem fd_K1s {V : Nat → Int32} {x : Nat} {cn : Int32} {a1 a2 a3 a5 a6 a7 b2 b3 b5 b6 b7 : Nat → Int32} (hx : x < 4) (h : fd_K1 V x cn a1 a2 a3 a5 a6 a7)
    (o2 : fd_O x a2 b2) (e2 : b2 x = a1 x) (o3 : fd_O x a3 b3) (e3 : b3 x = a1 x) (o5 : fd_O x a5 b5) (e5 : b5 x = 0) (hD : fd_D x (a1 x) a6 a7 b6 b7) : fd_K1 V (x + 1) cn a1 b2 b3 b5 b6 b7 := by
  obtain ⟨h0, h1, h2, h3⟩ := h
  obtain ⟨o6, o7, d0, _⟩ := hD
  have e7 := d0 (h3 x hx (by omega))
  refine ⟨h0, h1, fun j hj hlt => ?_, fun j hj hle => ?_⟩
  · by_cases e : j = x
    · rw [e]
      exact ⟨e2.trans (h1 x hx), e3.trans (h1 x hx), e5, e7.1.trans (h1 x hx), e7.2⟩
    · have g := h2 j hj (by omega)
      rw [o2 j e, o3 j e, o5 j e, o7 j e, o6 (j * 4) (by omega)]
      exact g
  · rw [o7 j (by omega)]
    exact h3 j hj (by omega)
/-- the first sample: cells below t are taken; of all cells only 1 and 2 are asked for later -/
def fd_L1 (V : Nat → Int32) (t : Nat) (gr ab : Int32) (a8 a9 a10 a12 : Nat → Int32) : Prop :=
  (t ≤ 1 → a8 1 = 0) ∧ (1 < t → a8 1 = 1 ∧ a9 1 = V 0 ∧ a10 1 = V 1) ∧ (2 < t → a12 2 = V 2 - V 0) ∧ (fd_b gr ↔ (2 < t → V 0 ≤ V 2)) ∧ fd_b ab
theorem fd_L1k {V : Nat → Int32} {t : Nat} {gr ab : Int32} {a8 a9 a10 a12 : Nat → Int32} (n1 : t ≠ 1) (n2 : t ≠ 2) (h : fd_L1 V t gr ab a8 a9 a10 a12) : fd_L1 V (t + 1) gr ab a8 a9 a10 a12 := by
  obtain ⟨h1, h2, h3, h4, h5⟩ := h
  exact ⟨fun z => h1 (by omega), fun z => h2 (by omega), fun z => h3 (by omega), ⟨fun g z => h4.mp g (by omega), fun g => h4.mpr (fun z => g (by omega))⟩, h5⟩
theorem fd_L1s {V : Nat → Int32} {x y : Nat} {gr ab gr' ab' : Int32} {a1 a8 a9 a10 a12 b8 b9 b10 b11 b12 : Nat → Int32} (hx : x < 4) (hy : y < 4) (hV : ∀ j, j < 4 → a1 j = V j)
    (h : fd_L1 V (4 * x + y) gr ab a8 a9 a10 a12) (o8 : fd_O (4 * x + y) a8 b8) (o9 : fd_O (4 * x + y) a9 b9) (o10 : fd_O (4 * x + y) a10 b10) (o12 : fd_O (4 * x + y) a12 b12)
    (hg : fd_b gr' ↔ fd_b gr ∧ (4 * x + y = 2 → a1 x ≤ a1 y)) (ha : ab' = ab ∧ b12 (4 * x + y) = a1 y - a1 x)
    (hl : fd_L (a8 (4 * x + y)) (a9 (4 * x + y)) (a10 (4 * x + y)) (a1 x) (a1 y) (b8 (4 * x + y)) (b9 (4 * x + y)) (b10 (4 * x + y)) (b11 (4 * x + y))) :
    fd_L1 V (4 * x + y + 1) gr' ab' b8 b9 b10 b12 := by
  rw [hV x hx, hV y hy] at hg ha hl
  by_cases c1 : 4 * x + y = 1
  · have ex : x = 0 := by omega
    have ey : y = 1 := by omega
    subst ex ey
    obtain ⟨h1, h2, h3, h4, h5⟩ := h
    refine ⟨fun z => absurd z (by omega), fun _ => hl.1 (h1 (by omega)), fun z => absurd z (by omega), ⟨fun _ z => absurd z (by omega), fun _ => hg.mpr ⟨h4.mpr (fun z => absurd z (by omega)), fun z => absurd z (by omega)⟩⟩, ?_⟩
    rw [ha.1]
    exact h5
  · by_cases c2 : 4 * x + y = 2
    · have ex : x = 0 := by omega
      have ey : y = 2 := by omega
      subst ex ey
      obtain ⟨h1, h2, h3, h4, h5⟩ := h
      refine ⟨fun z => absurd z (by omega), fun _ => ?_, fun _ => ha.2, ⟨fun g _ => (hg.mp g).2 rfl, fun g => hg.mpr ⟨h4.mpr (fun z => absurd z (by omega)), fun _ => g (by omega)⟩⟩, ?_⟩
      · rw [o8 1 (by omega), o9 1 (by omega), o10 1 (by omega)]
        exact h2 (by omega)
      · rw [ha.1]
        exact h5
    · obtain ⟨h1, h2, h3, h4, h5⟩ := fd_L1k c1 c2 h
      refine ⟨fun z => ?_, fun z => ?_, fun z => ?_, ⟨fun g => h4.mp (hg.mp g).1, fun g => hg.mpr ⟨h4.mpr g, fun z => absurd z c2⟩⟩, ?_⟩
      · rw [o8 1 (by omega)]
        exact h1 z
      · rw [o8 1 (by omega), o9 1 (by omega), o10 1 (by omega)]
        exact h2 z
      · rw [o12 2 (by omega)]
        exact h3 z
      · rw [ha.1]
        exact h5
def fd_O1 (V : Nat → Int32) (x t : Nat) (s : St2) : Prop := match s with
  | (cn, nl, gr, un, al, ab, sb, a1, a2, a3, a4, a5, a6, a7, a8, a9, a10, a11, a12) => fd_K1 V x cn a1 a2 a3 a5 a6 a7 ∧ fd_L1 V t gr ab a8 a9 a10 a12
/-- what the first sample leaves -/
def fd_R1 (V a2 a3 a5 a6 a7 : Nat → Int32) : Prop := ∀ j, j < 4 → a2 j = V j ∧ a3 j = V j ∧ a5 j = 0 ∧ a6 (j * 4) = V j ∧ a7 j = 1
theorem fd_s1 {cn nl gr un al ab : Int32} {sb : Int64} {a1 a2 a3 a4 a5 a6 a7 a8 a9 a10 a11 a12 : Nat → Int32} {post : Int32 → St2 → Prop} {p0 p1 p2 p3 : Int32}
    (h0 : ¬ p0 < -100 ∧ ¬ 100 < p0) (h1 : ¬ p1 < -100 ∧ ¬ 100 < p1) (h2 : ¬ p2 < -100 ∧ ¬ 100 < p2) (h3 : ¬ p3 < -100 ∧ ¬ 100 < p3)
    (hc : cn = 0) (hg : fd_b gr) (ha : fd_b ab) (h7 : ∀ j, j < 4 → a7 j = 0) (h8 : a8 1 = 0)
    (H : ∀ (cn nl gr un al ab : Int32) (sb : Int64) (a1 a2 a3 a4 a5 a6 a7 a8 a9 a10 a11 a12 : Nat → Int32), cn = 1 → fd_R1 (fd_V p0 p1 p2 p3) a2 a3 a5 a6 a7 → fd_L1 (fd_V p0 p1 p2 p3) 16 gr ab a8 a9 a10 a12 → post cn (cn, nl, gr, un, al, ab, sb, a1, a2, a3, a4, a5, a6, a7, a8, a9, a10, a11, a12)) :
    wpX_sample post (cn, nl, gr, un, al, ab, sb, a1, a2, a3, a4, a5, a6, a7, a8, a9, a10, a11, a12) p0 p1 p2 p3 := by
  refine fd_sample (fun x => fd_O1 (fd_V p0 p1 p2 p3) x (4 * x)) (fun x y => fd_O1 (fd_V p0 p1 p2 p3) (x + 1) (4 * x + y)) ?_ ?_ ?_ ?_ ?_ (by rw [hc]; decide) h0 h1 h2 h3 ?_
  · intro x cn nl gr un al ab sb a1 a2 a3 a4 a5 a6 a7 a8 a9 a10 a11 a12 Q hx hO hQ
    obtain ⟨k, l⟩ := hO
    exact fd_tv0 hx k.1 (Or.inl (k.2.2.2 x hx (by omega))) (fun b2 b3 b4 b5 b6 b7 o2 e2 o3 e3 o5 e5 hD => hQ _ ⟨fd_K1s hx k o2 e2 o3 e3 o5 e5 hD, l⟩)
  · intro x s hx hN
    obtain ⟨cn, nl, gr, un, al, ab, sb, a1, a2, a3, a4, a5, a6, a7, a8, a9, a10, a11, a12⟩ := s
    exact ⟨hN.1, fd_L1k (t := 4 * x + x) (by omega) (by omega) hN.2⟩
  · intro x y s Q hx hy hne hN hQ
    obtain ⟨cn, nl, gr, un, al, ab, sb, a1, a2, a3, a4, a5, a6, a7, a8, a9, a10, a11, a12⟩ := s
    obtain ⟨k, l⟩ := hN
    exact fd_pair hx hy (fun nl' gr' un' al' ab' b8 b9 b10 b11 b12 o8 o9 o10 o11 o12 g g0 g1 hl => hQ _ ⟨k, fd_L1s hx hy k.2.1 l o8 o9 o10 o12 g (g0 k.1) hl⟩)
  · intro x s hx hN
    exact hN
  · intro cn nl gr un al ab sb a1 a2 a3 a4 a5 a6 a7 a8 a9 a10 a11 a12 sb' hO
    obtain ⟨k, l⟩ := hO
    exact H (cn + 1) nl gr un al ab sb' a1 a2 a3 a4 a5 a6 a7 a8 a9 a10 a11 a12 (by rw [k.1]; rfl) (fun j hj => k.2.2.1 j hj hj) l
  · exact ⟨⟨hc, fd_now, fun j _ z => absurd z (by omega), fun j hj _ => h7 j hj⟩, fun _ => h8, fun z => absurd z (by omega), fun z => absurd z (by omega), ⟨fun _ z => absurd z (by omega), fun _ => hg⟩, ha⟩
end
section
/-! the second sample -/
def fd_K2 (V U : Nat → Int32) (x : Nat) (cn : Int32) (a1 a2 a3 a5 a6 a7 : Nat → Int32) : Prop :=
  cn = 1 ∧ (∀ j, j < 4 → a1 j = U j) ∧ (∀ j, j < 4 → x ≤ j → a2 j = V j ∧ a3 j = V j ∧ a5 j = 0 ∧ a6 (j * 4) = V j ∧ a7 j = 1) ∧
  (∀ j, j < 4 → j < x → a3 j = (if V j ≤ U j then V j else U j) ∧ a5 j = fd_dv 0 (U j - V j) ∧ (V j = U j → a7 j = 1) ∧ (¬ V j = U j → a7 j = 2))
theorem fd_K2s {V U : Nat → Int32} {x : Nat} {cn : Int32} {a1 a2 a3 a5 a6 a7 b3 b5 b6 b7 : Nat → Int32} (hx : x < 4) (h : fd_K2 V U x cn a1 a2 a3 a5 a6 a7)
    (o3 : fd_O x a3 b3) (e3 : b3 x = (if a3 x ≤ a1 x then a3 x else a1 x)) (o5 : fd_O x a5 b5) (e5 : b5 x = fd_dv (a5 x) (a1 x - a2 x)) (hD : fd_D x (a1 x) a6 a7 b6 b7) : fd_K2 V U (x + 1) cn a1 a2 b3 b5 b6 b7 := by
  obtain ⟨h0, h1, h2, h3⟩ := h
  obtain ⟨o6, o7, _, d1⟩ := hD
  obtain ⟨g2, g3, g5, g6, g7⟩ := h2 x hx (by omega)
  have e7 := d1 g7
  rw [g6, h1 x hx] at e7
  rw [g3, h1 x hx] at e3
  rw [g5, g2, h1 x hx] at e5
  refine ⟨h0, h1, fun j hj hle => ?_, fun j hj hlt => ?_⟩
  · have e : j ≠ x := by omega
    have g := h2 j hj (by omega)
    rw [o3 j e, o5 j e, o7 j e, o6 (j * 4) (by omega)]
    exact g
  · by_cases e : j = x
    · rw [e]
      exact ⟨e3, e5, e7⟩
    · have g := h3 j hj (by omega)
      rw [o3 j e, o5 j e, o7 j e]
      exact g
def fd_L2 (V U : Nat → Int32) (t : Nat) (gr ab : Int32) (a8 a9 a10 a11 a12 : Nat → Int32) : Prop :=
  (t ≤ 1 → a8 1 = 1 ∧ a9 1 = V 0 ∧ a10 1 = V 1) ∧ (1 < t → fd_L 1 (V 0) (V 1) (U 0) (U 1) (a8 1) (a9 1) (a10 1) (a11 1)) ∧ a12 2 = V 2 - V 0 ∧
  (fd_b gr ↔ V 0 ≤ V 2 ∧ (2 < t → U 0 ≤ U 2)) ∧ (fd_b ab ↔ (2 < t → U 2 - U 0 = V 2 - V 0))
theorem fd_L2k {V U : Nat → Int32} {t : Nat} {gr ab : Int32} {a8 a9 a10 a11 a12 : Nat → Int32} (n1 : t ≠ 1) (n2 : t ≠ 2) (h : fd_L2 V U t gr ab a8 a9 a10 a11 a12) : fd_L2 V U (t + 1) gr ab a8 a9 a10 a11 a12 := by
  obtain ⟨h1, h2, h3, h4, h5⟩ := h
  exact ⟨fun z => h1 (by omega), fun z => h2 (by omega), h3, ⟨fun g => ⟨(h4.mp g).1, fun z => (h4.mp g).2 (by omega)⟩, fun g => h4.mpr ⟨g.1, fun z => g.2 (by omega)⟩⟩,
    ⟨fun g z => h5.mp g (by omega), fun g => h5.mpr (fun z => g (by omega))⟩⟩
theorem fd_L2s {V U : Nat → Int32} {x y : Nat} {gr ab gr' ab' : Int32} {a1 a8 a9 a10 a11 a12 b8 b9 b10 b11 b12 : Nat → Int32} (hx : x < 4) (hy : y < 4) (hU : ∀ j, j < 4 → a1 j = U j)
    (h : fd_L2 V U (4 * x + y) gr ab a8 a9 a10 a11 a12) (o8 : fd_O (4 * x + y) a8 b8) (o9 : fd_O (4 * x + y) a9 b9) (o10 : fd_O (4 * x + y) a10 b10) (o11 : fd_O (4 * x + y) a11 b11) (o12 : fd_O (4 * x + y) a12 b12)
    (hg : fd_b gr' ↔ fd_b gr ∧ (4 * x + y = 2 → a1 x ≤ a1 y)) (ha : b12 (4 * x + y) = a12 (4 * x + y) ∧ (fd_b ab' ↔ fd_b ab ∧ (4 * x + y = 2 → a1 y - a1 x = a12 (4 * x + y))))
    (hl : fd_L (a8 (4 * x + y)) (a9 (4 * x + y)) (a10 (4 * x + y)) (a1 x) (a1 y) (b8 (4 * x + y)) (b9 (4 * x + y)) (b10 (4 * x + y)) (b11 (4 * x + y))) :
    fd_L2 V U (4 * x + y + 1) gr' ab' b8 b9 b10 b11 b12 := by
  rw [hU x hx, hU y hy] at hg ha hl
  by_cases c1 : 4 * x + y = 1
  · have ex : x = 0 := by omega
    have ey : y = 1 := by omega
    subst ex ey
    obtain ⟨h1, h2, h3, h4, h5⟩ := h
    refine ⟨fun z => absurd z (by omega), fun _ => ?_, ?_, ⟨fun g => ⟨(h4.mp (hg.mp g).1).1, fun z => absurd z (by omega)⟩, fun g => hg.mpr ⟨h4.mpr ⟨g.1, fun z => absurd z (by omega)⟩, fun z => absurd z (by omega)⟩⟩,
      ⟨fun _ z => absurd z (by omega), fun _ => ha.2.mpr ⟨h5.mpr (fun z => absurd z (by omega)), fun z => absurd z (by omega)⟩⟩⟩
    · obtain ⟨k8, k9, k10⟩ := h1 (by omega)
      have hl' : fd_L (a8 1) (a9 1) (a10 1) (U 0) (U 1) (b8 1) (b9 1) (b10 1) (b11 1) := hl
      rw [k8, k9, k10] at hl'
      exact hl'
    · rw [o12 2 (by omega)]
      exact h3
  · by_cases c2 : 4 * x + y = 2
    · have ex : x = 0 := by omega
      have ey : y = 2 := by omega
      subst ex ey
      obtain ⟨h1, h2, h3, h4, h5⟩ := h
      have ha1 : b12 2 = a12 2 := ha.1
      have ha2 : fd_b ab' ↔ fd_b ab ∧ (4 * 0 + 2 = 2 → U 2 - U 0 = a12 2) := ha.2
      rw [h3] at ha2
      refine ⟨fun z => absurd z (by omega), fun _ => ?_, ha1.trans h3, ⟨fun g => ⟨(h4.mp (hg.mp g).1).1, fun _ => (hg.mp g).2 rfl⟩, fun g => hg.mpr ⟨h4.mpr ⟨g.1, fun z => absurd z (by omega)⟩, fun _ => g.2 (by omega)⟩⟩,
        ⟨fun g _ => (ha2.mp g).2 rfl, fun g => ha2.mpr ⟨h5.mpr (fun z => absurd z (by omega)), fun _ => g (by omega)⟩⟩⟩
      rw [o8 1 (by omega), o9 1 (by omega), o10 1 (by omega), o11 1 (by omega)]
      exact h2 (by omega)
    · obtain ⟨h1, h2, h3, h4, h5⟩ := fd_L2k c1 c2 h
      refine ⟨fun z => ?_, fun z => ?_, ?_, ⟨fun g => h4.mp (hg.mp g).1, fun g => hg.mpr ⟨h4.mpr g, fun z => absurd z c2⟩⟩, ⟨fun g => h5.mp (ha.2.mp g).1, fun g => ha.2.mpr ⟨h5.mpr g, fun z => absurd z c2⟩⟩⟩
      · rw [o8 1 (by omega), o9 1 (by omega), o10 1 (by omega)]
        exact h1 z
      · rw [o8 1 (by omega), o9 1 (by omega), o10 1 (by omega), o11 1 (by omega)]
        exact h2 z
      · rw [o12 2 (by omega)]
        exact h3
def fd_O2 (V U : Nat → Int32) (x t : Nat) (s : St2) : Prop := match s with
  | (cn, nl, gr, un, al, ab, sb, a1, a2, a3, a4, a5, a6, a7, a8, a9, a10, a11, a12) => fd_K2 V U x cn a1 a2 a3 a5 a6 a7 ∧ fd_L2 V U t gr ab a8 a9 a10 a11 a12
theorem fd_ne0 {cn : Int32} (h : cn = 1) : ¬ cn = 0 := by
  rw [h]
  decide
/-- what the second sample leaves, as far as the law asks -/
theorem fd_s2 {cn nl gr un al ab : Int32} {sb : Int64} {a1 a2 a3 a4 a5 a6 a7 a8 a9 a10 a11 a12 : Nat → Int32} {post : Int32 → St2 → Prop} {V : Nat → Int32} {p0 p1 p2 p3 : Int32}
    (h0 : ¬ p0 < -100 ∧ ¬ 100 < p0) (h1 : ¬ p1 < -100 ∧ ¬ 100 < p1) (h2 : ¬ p2 < -100 ∧ ¬ 100 < p2) (h3 : ¬ p3 < -100 ∧ ¬ 100 < p3)
    (hc : cn = 1) (hR : fd_R1 V a2 a3 a5 a6 a7) (hL : fd_L1 V 16 gr ab a8 a9 a10 a12)
    (H : ∀ (cn nl gr un al ab : Int32) (sb : Int64) (a1 a2 a3 a4 a5 a6 a7 a8 a9 a10 a11 a12 : Nat → Int32), cn = 2 → (a3 2 = (if V 2 ≤ p2 then V 2 else p2) ∧ a5 2 = fd_dv 0 (p2 - V 2) ∧ (V 2 = p2 → a7 2 = 1) ∧ (¬ V 2 = p2 → a7 2 = 2)) →
      fd_L 1 (V 0) (V 1) p0 p1 (a8 1) (a9 1) (a10 1) (a11 1) → a12 2 = V 2 - V 0 → (fd_b gr ↔ V 0 ≤ V 2 ∧ p0 ≤ p2) → (fd_b ab ↔ p2 - p0 = V 2 - V 0) → post cn (cn, nl, gr, un, al, ab, sb, a1, a2, a3, a4, a5, a6, a7, a8, a9, a10, a11, a12)) :
    wpX_sample post (cn, nl, gr, un, al, ab, sb, a1, a2, a3, a4, a5, a6, a7, a8, a9, a10, a11, a12) p0 p1 p2 p3 := by
  refine fd_sample (fun x => fd_O2 V (fd_V p0 p1 p2 p3) x (4 * x)) (fun x y => fd_O2 V (fd_V p0 p1 p2 p3) (x + 1) (4 * x + y)) ?_ ?_ ?_ ?_ ?_ (by rw [hc]; decide) h0 h1 h2 h3 ?_
  · intro x cn nl gr un al ab sb a1 a2 a3 a4 a5 a6 a7 a8 a9 a10 a11 a12 Q hx hO hQ
    obtain ⟨k, l⟩ := hO
    exact fd_tv1 hx (fd_ne0 k.1) (Or.inr (k.2.2.1 x hx (by omega)).2.2.2.2) (fun b3 b4 b5 b6 b7 o3 e3 o5 e5 hD => hQ _ ⟨fd_K2s hx k o3 e3 o5 e5 hD, l⟩)
  · intro x s hx hN
    obtain ⟨cn, nl, gr, un, al, ab, sb, a1, a2, a3, a4, a5, a6, a7, a8, a9, a10, a11, a12⟩ := s
    exact ⟨hN.1, fd_L2k (t := 4 * x + x) (by omega) (by omega) hN.2⟩
  · intro x y s Q hx hy hne hN hQ
    obtain ⟨cn, nl, gr, un, al, ab, sb, a1, a2, a3, a4, a5, a6, a7, a8, a9, a10, a11, a12⟩ := s
    obtain ⟨k, l⟩ := hN
    exact fd_pair hx hy (fun nl' gr' un' al' ab' b8 b9 b10 b11 b12 o8 o9 o10 o11 o12 g g0 g1 hl => hQ _ ⟨k, fd_L2s hx hy k.2.1 l o8 o9 o10 o11 o12 g (g1 (fd_ne0 k.1)) hl⟩)
  · intro x s hx hN
    exact hN
  · intro cn nl gr un al ab sb a1 a2 a3 a4 a5 a6 a7 a8 a9 a10 a11 a12 sb' hO
    obtain ⟨k, l1, l2, l3, l4, l5⟩ := hO
    exact H (cn + 1) nl gr un al ab sb' a1 a2 a3 a4 a5 a6 a7 a8 a9 a10 a11 a12 (by rw [k.1]; rfl) (k.2.2.2 2 (by omega) (by omega)) (l2 (by omega)) l3
      ⟨fun g => ⟨(l4.mp g).1, (l4.mp g).2 (by omega)⟩, fun g => l4.mpr ⟨g.1, fun _ => g.2⟩⟩ ⟨fun g => l5.mp g (by omega), fun g => l5.mpr (fun _ => g)⟩
  · obtain ⟨l1, l2, l3, l4, l5⟩ := hL
    exact ⟨⟨hc, fd_now, fun j hj _ => hR j hj, fun j _ z => absurd z (by omega)⟩, fun _ => l2 (by omega), fun z => absurd z (by omega), l3 (by omega),
      ⟨fun g => ⟨l4.mp g (by omega), fun z => absurd z (by omega)⟩, fun g => l4.mpr (fun _ => g.1)⟩, ⟨fun _ z => absurd z (by omega), fun _ => l5⟩⟩
end
section
/-! the answers, and the law -/
theorem fd_isvar {post : Int32 → Prop} {p : Int32} (h0 : ¬ p < 0) (h4 : ¬ 4 ≤ p) (H : post 1) : wpX_isVariable post () p := br_f h0 (br_f h4 H)
theorem fd_ispair {post : Int32 → Prop} {p q : Int32} (h0 : ¬ p < 0) (h4 : ¬ 4 ≤ p) (g0 : ¬ q < 0) (g4 : ¬ 4 ≤ q) (hn : ¬ p = q) (H : post 1) : wpX_isPair post () p q :=
  fd_isvar h0 h4 (br_f (by decide) (fd_isvar g0 g4 (br_f (by decide) (br_f hn H))))
theorem fd_c1 : (4 * (0 : Int32) + 1).toNatClampNeg = 1 := by decide
theorem fd_c2 : (2 : Int32).toNatClampNeg = 2 := by decide
theorem fd_i24 : vp_in (2 : Int32) 4 := vp_in_iff.mpr (by decide)
theorem fd_i1 : vp_in (4 * (0 : Int32) + 1) 16 := vp_in_iff.mpr (by decide)
theorem fd_qmod {cn nl gr un al ab : Int32} {sb : Int64} {a1 a2 a3 a4 a5 a6 a7 a8 a9 a10 a11 a12 : Nat → Int32} {post : Int32 → Prop} (hc : ¬ cn = 0) (H : post (a5 2)) : wpX_modulus post (cn, nl, gr, un, al, ab, sb, a1, a2, a3, a4, a5, a6, a7, a8, a9, a10, a11, a12) 2 := by
  unfold wpX_modulus
  refine fd_isvar (by decide) (by decide) (br_f (by decide) (br_f hc ⟨fd_i24, ?_⟩))
  rw [fd_c2]
  exact H
theorem fd_qbound {cn nl gr un al ab : Int32} {sb : Int64} {a1 a2 a3 a4 a5 a6 a7 a8 a9 a10 a11 a12 : Nat → Int32} {post : Int32 → Prop} (hc : ¬ cn = 0) (H : post (a3 2)) : wpX_bound post (cn, nl, gr, un, al, ab, sb, a1, a2, a3, a4, a5, a6, a7, a8, a9, a10, a11, a12) 2 0 := by
  unfold wpX_bound
  refine fd_isvar (by decide) (by decide) (br_f (by decide) (br_f hc (br_f (by decide) (br_t (by decide) (br_t rfl ⟨fd_i24, ?_⟩)))))
  rw [fd_c2]
  exact H
theorem fd_qdiff {cn nl gr un al ab : Int32} {sb : Int64} {a1 a2 a3 a4 a5 a6 a7 a8 a9 a10 a11 a12 : Nat → Int32} {post : Int32 → Prop} (H : post (a7 2)) : wpX_different post (cn, nl, gr, un, al, ab, sb, a1, a2, a3, a4, a5, a6, a7, a8, a9, a10, a11, a12) 2 := by
  unfold wpX_different
  refine fd_isvar (by decide) (by decide) (br_f (by decide) ⟨fd_i24, ?_⟩)
  rw [fd_c2]
  exact H
theorem fd_has {cn nl gr un al ab : Int32} {sb : Int64} {a1 a2 a3 a4 a5 a6 a7 a8 a9 a10 a11 a12 : Nat → Int32} {post : Int32 → Prop} (H1 : a8 1 = 2 → post 1) (H0 : ¬ a8 1 = 2 → post 0) : wpX_hasLine post (cn, nl, gr, un, al, ab, sb, a1, a2, a3, a4, a5, a6, a7, a8, a9, a10, a11, a12) 0 1 := by
  unfold wpX_hasLine
  refine fd_ispair (by decide) (by decide) (by decide) (by decide) (by decide) (br_f (by decide) ⟨fd_i1, ?_⟩)
  rw [fd_c1]
  exact ⟨H1, H0⟩
theorem fd_qline {cn nl gr un al ab : Int32} {sb : Int64} {a1 a2 a3 a4 a5 a6 a7 a8 a9 a10 a11 a12 : Nat → Int32} {post : Int32 → Prop} (r : Int32) (h1 : a8 1 = 2 → a9 1 = r) (h0 : ¬ a8 1 = 2 → 0 = r) (H : post r) : wpX_line post (cn, nl, gr, un, al, ab, sb, a1, a2, a3, a4, a5, a6, a7, a8, a9, a10, a11, a12) 0 1 := by
  unfold wpX_line
  refine fd_has (fun e => br_f (by decide) ⟨fd_i1, ?_⟩) (fun e => br_t rfl ?_)
  · rw [fd_c1, h1 e]
    exact H
  · rw [h0 e]
    exact H
theorem fd_qslope {cn nl gr un al ab : Int32} {sb : Int64} {a1 a2 a3 a4 a5 a6 a7 a8 a9 a10 a11 a12 : Nat → Int32} {post : Int32 → Prop} (r : Int32) (h1 : a8 1 = 2 → a10 1 = r) (h0 : ¬ a8 1 = 2 → 0 = r) (H : post r) : wpX_slope post (cn, nl, gr, un, al, ab, sb, a1, a2, a3, a4, a5, a6, a7, a8, a9, a10, a11, a12) 0 1 := by
  unfold wpX_slope
  refine fd_has (fun e => br_f (by decide) ⟨fd_i1, ?_⟩) (fun e => br_t rfl ?_)
  · rw [fd_c1, h1 e]
    exact H
  · rw [h0 e]
    exact H
theorem fd_qrise {cn nl gr un al ab : Int32} {sb : Int64} {a1 a2 a3 a4 a5 a6 a7 a8 a9 a10 a11 a12 : Nat → Int32} {post : Int32 → Prop} (r : Int32) (h1 : a8 1 = 2 → a11 1 = r) (h0 : ¬ a8 1 = 2 → 0 = r) (H : post r) : wpX_rise post (cn, nl, gr, un, al, ab, sb, a1, a2, a3, a4, a5, a6, a7, a8, a9, a10, a11, a12) 0 1 := by
  unfold wpX_rise
  refine fd_has (fun e => br_f (by decide) ⟨fd_i1, ?_⟩) (fun e => br_t rfl ?_)
  · rw [fd_c1, h1 e]
    exact H
  · rw [h0 e]
    exact H
theorem fd_qoff {cn nl gr un al ab : Int32} {sb : Int64} {a1 a2 a3 a4 a5 a6 a7 a8 a9 a10 a11 a12 : Nat → Int32} {post : Int32 → Prop} (r : Int32) (hc : ¬ cn = 0) (h1 : fd_b ab → a12 2 = r) (h0 : ¬ fd_b ab → -1000 = r) (H : post r) : wpX_offset post (cn, nl, gr, un, al, ab, sb, a1, a2, a3, a4, a5, a6, a7, a8, a9, a10, a11, a12) 0 2 := by
  unfold wpX_offset
  refine fd_ispair (by decide) (by decide) (by decide) (by decide) (by decide) (br_f (by decide) (br_f hc (nm_r (e' := nI 2) (by decide) (br_c (fun e => ⟨vp_in_nI (by omega) (by omega), ?_⟩) (fun e => ?_)))))
  · rw [nI_clamp (by omega), h1 e]
    exact H
  · rw [h0 e]
    exact H
theorem fd_qrel {cn nl gr un al ab : Int32} {sb : Int64} {a1 a2 a3 a4 a5 a6 a7 a8 a9 a10 a11 a12 : Nat → Int32} {post : Int32 → Prop} (r : Int32) (h1 : fd_b gr → 1 = r) (h0 : ¬ fd_b gr → 0 = r) (H : post r) : wpX_relation post (cn, nl, gr, un, al, ab, sb, a1, a2, a3, a4, a5, a6, a7, a8, a9, a10, a11, a12) 0 2 1 := by
  unfold wpX_relation
  refine fd_ispair (by decide) (by decide) (by decide) (by decide) (by decide) (br_f (by decide) (br_f (by decide) (br_t (by decide) (br_f (by decide) (br_t rfl ?_)))))
  unfold wX_relation_58
  rw [show (4 * (0 : Int32) + 2) = nI 2 by decide]
  refine br_c (fun e => ?_) (fun e => ?_)
  · rw [h1 e]
    exact H
  · rw [h0 e]
    exact H
theorem fd_qabs {post : Int32 → Prop} {z : Int32} (H : post (if 0 ≤ z then z else -z)) : wpL_abs post () z := by
  refine br_c (fun e => ?_) (fun e => ?_)
  · rw [if_pos e] at H
    exact H
  · rw [if_neg e] at H
    exact H
theorem fd_init {post : St2 → Prop} (H : post (0, 0, 0, 0, 0, 0, 0, (fun _ => 0), (fun _ => 0), (fun _ => 0), (fun _ => 0), (fun _ => 0), (fun _ => 0), (fun _ => 0), (fun _ => 0), (fun _ => 0), (fun _ => 0), (fun _ => 0), (fun _ => 0))) : wpX_init post 12 120 (0, 0, 0, 0, 0, 0, 0) := by
  unfold wpX_init
  exact ⟨by decide, by decide, by decide, by decide, by decide, by decide, by decide, by decide, by decide, by decide, by decide, by decide, by decide, by decide, by decide, by decide, by decide, by decide, by decide, by decide, by decide, by decide, by decide, by decide, H⟩
/-- the law's own checks -/
theorem fd_184 {post : Int32 → St0 → Prop} {mc ms kc ks : Nat} {x5 x6 x7 x8 x9 x10 x11 x12 x13 x14 x15 x16 x17 z0 : Int32} (h9 : x9 = x17) (h10 : x10 = (if x8 ≤ x7 then x8 else x7)) (h11 : x11 = (if x17 = 0 then 1 else 2))
    (h12 : x12 = (if z0 = 0 then 0 else 1)) (h13 : x13 = (if z0 = 0 then 0 else 2)) (h14 : x14 = 0) (h15 : x15 = (if x7 - x5 = x8 - x6 then x7 - x5 else -1000)) (h16 : x16 = (if x7 < x5 then 0 else if x8 < x6 then 0 else 1)) (hp : post 1 ()) :
    wL_lawOf_184 post mc ms x5 x6 x7 x8 x9 x10 x11 x12 x13 x14 x15 x16 x17 z0 kc ks := by
  have k7 : ∀ z, x15 = z → wL_lawOf_307 post mc ms x5 x6 x7 x8 x16 z x15 kc ks := fun z e => br_t e (br_c (fun g => br_t (by rw [h16, if_pos g]) hp) (fun g => br_c (fun g2 => br_t (by rw [h16, if_neg g, if_pos g2]) hp) (fun g2 => br_t (by rw [h16, if_neg g, if_neg g2]) hp)))
  have k6 : ∀ z, x13 = z → wL_lawOf_273 post mc ms x5 x6 x7 x8 x14 x15 x16 z x13 kc ks := fun z e => br_t e (br_t h14 (br_c (fun g => k7 _ (by rw [h15, if_pos g])) (fun g => k7 _ (by rw [h15, if_neg g]))))
  have k5 : ∀ z, x12 = z → wL_lawOf_258 post mc ms x5 x6 x7 x8 x13 x14 x15 x16 z0 z x12 kc ks := fun z e => br_t e (br_c (fun g => k6 _ (by rw [h13, if_pos g])) (fun g => k6 _ (by rw [h13, if_neg g])))
  have k4 : ∀ z, x11 = z → wL_lawOf_243 post mc ms x5 x6 x7 x8 x12 x13 x14 x15 x16 z0 z x11 kc ks := fun z e => br_t e (br_c (fun g => k5 _ (by rw [h12, if_pos g])) (fun g => k5 _ (by rw [h12, if_neg g])))
  have k3 : ∀ z, x10 = z → wL_lawOf_228 post mc ms x5 x6 x7 x8 x11 x12 x13 x14 x15 x16 x17 z0 z x10 kc ks := fun z e => br_t e (br_c (fun g => k4 _ (by rw [h11, if_pos g])) (fun g => k4 _ (by rw [h11, if_neg g])))
  have k2 : ∀ z, x9 = z → wL_lawOf_209 post mc ms x5 x6 x7 x8 x10 x11 x12 x13 x14 x15 x16 x17 z0 z x9 kc ks := fun z e => br_t e (br_c (fun g => k3 _ (by rw [h10, if_pos g])) (fun g => k3 _ (by rw [h10, if_neg g])))
  exact br_c (fun g => k2 _ (h9.trans g)) (fun _ => br_c (fun g => k2 _ (h9.trans g)) (fun _ => k2 _ h9))
theorem fd_rem (p : Int32) {d : Int32} (k : Nat) (hd : d = nI k) (h0 : 0 < k) (h1 : k < 2 ^ 31) : ∃ n, n < k ∧ (p &&& 65535) - (p &&& 65535) / d * d = nI n := by
  obtain ⟨j, hj, e⟩ := pk_andE p (m := 65535) 16 (by decide)
  refine ⟨j % k, Nat.mod_lt _ h0, ?_⟩
  rw [e, hd]
  exact pk_rem (by omega) h0 h1
/-- the difference of two numbers below k, as a row of a table -/
theorem fd_dif {a b k : Nat} (ha : a ≤ k) : nI b - nI a = nI (b + k - a) - nI k := by
  rw [← pk_sub (show a ≤ b + k by omega), ← nI_add]
  grind
theorem fd_s0 {x y : Int32} : x - y = 0 ↔ y = x := by grind
theorem fd_min {c d : Int32} : (if c ≤ d then c else d) = (if d ≤ c then d else c) := by
  by_cases h : c ≤ d
  · by_cases g : d ≤ c
    · rw [if_pos h, if_pos g]
      exact Int32.le_antisymm h g
    · rw [if_pos h, if_neg g]
  · have g : d ≤ c := (Int32.le_total c d).resolve_left h
    rw [if_neg h, if_pos g]
/-- the line of the points (a, 2 a), (b, 2 b) -/
theorem fd_two {a b s p q r : Int32} {A B : Nat} (hA : A < 101) (hB : B < 101) (ea : a = nI A - 50) (eb : b = nI B - 50) (h : fd_L 1 a (2 * a) b (2 * b) s p q r) :
    (a = b → s = 1) ∧ (¬ a = b → s = 2 ∧ p = 1 ∧ q = 2 ∧ r = 0) := by
  obtain ⟨h1, h2⟩ := h.2 rfl
  refine ⟨fun e => h1 (fd_s0.mpr e) (fd_s0.mpr (by rw [e])), fun e => ?_⟩
  have t : b - a = nI (B + 100 - A) - 100 := by
    have z := fd_dif (b := B) (show A ≤ 100 by omega)
    rw [ea, eb]
    rw [show (100 : Int32) = nI 100 from rfl, ← z]
    grind
  have u : 2 * b - 2 * a = 2 * (b - a) := by grind
  have n : ¬ b - a = 0 := fun z => e (fd_s0.mp z)
  rw [u, t] at h2
  rw [t] at n
  obtain ⟨t1, t2, t3⟩ := fd_tab (B + 100 - A) (by omega) n
  obtain ⟨g1, g2, g3, g4⟩ := h2 n t1
  rw [t2] at g2
  rw [t3] at g3
  refine ⟨g1, g2, g3, ?_⟩
  rw [g4, g2, g3]
  grind
/-- the gap of two values -/
theorem fd_apart {c d : Int32} {C D : Nat} (hC : C < 201) (hD : D < 201) (ec : c = nI C - 100) (ed : d = nI D - 100) :
    fd_dv 0 (d - c) = (if 0 ≤ c - d then c - d else -(c - d)) ∧ ((if 0 ≤ c - d then c - d else -(c - d)) = 0 ↔ c = d) := by
  have t : d - c = nI (D + 200 - C) - 200 := by
    have z := fd_dif (b := D) (show C ≤ 200 by omega)
    rw [ec, ed]
    rw [show (200 : Int32) = nI 200 from rfl, ← z]
    grind
  have u : c - d = -(d - c) := by grind
  obtain ⟨g1, g2⟩ := fd_gap (D + 200 - C) (by omega)
  rw [← t] at g1 g2
  rw [← u] at g1
  rw [← g1]
  exact ⟨rfl, g2.trans fd_s0⟩
theorem fd_lawOf (p0 p1 p2 p3 : Int32) : wpL_lawOf (fun r _ => r = 1) 13 139 () p0 p1 p2 p3 := by
  obtain ⟨A, hA, eA⟩ := fd_rem p0 (d := 101) 101 rfl (by omega) (by omega)
  obtain ⟨B, hB, eB⟩ := fd_rem p1 (d := 101) 101 rfl (by omega) (by omega)
  obtain ⟨C, hC, eC⟩ := fd_rem p2 (d := 201) 201 rfl (by omega) (by omega)
  obtain ⟨D, hD, eD⟩ := fd_rem p3 (d := 201) 201 rfl (by omega) (by omega)
  unfold wpL_lawOf
  rw [eA, eB, eC, eD]
  refine ⟨by decide, by decide, 12, 120, by decide, by decide, fd_init ⟨by decide, fun a ea => ⟨by decide, fun b eb => ⟨by decide, fun c ec => ⟨by decide, fun d ed => ?_⟩⟩⟩⟩⟩
  have va := fd_va A hA
  have vb := fd_va B hB
  have vc := fd_vc C hC
  have vd := fd_vc D hD
  rw [← ea] at va
  rw [← eb] at vb
  rw [← ec] at vc
  rw [← ed] at vd
  refine fd_s1 va.1 va.2 vc (by decide) rfl fd_b_0 fd_b_0 (fun _ _ => rfl) rfl ?_
  intro cn nl gr un al ab sb a1 a2 a3 a4 a5 a6 a7 a8 a9 a10 a11 a12 hcn hR hL
  refine fd_s2 vb.1 vb.2 vd (by decide) hcn hR hL ?_
  clear hcn hR hL cn nl gr un al ab sb a1 a2 a3 a4 a5 a6 a7 a8 a9 a10 a11 a12
  intro cn nl gr un al ab sb a1 a2 a3 a4 a5 a6 a7 a8 a9 a10 a11 a12 hcn hv hl h12 hgr hab
  have hc : ¬ cn = 0 := by rw [hcn]; decide
  obtain ⟨v3, v5, v7, v7'⟩ := hv
  have v3 : a3 2 = (if c ≤ d then c else d) := v3
  have v5 : a5 2 = fd_dv 0 (d - c) := v5
  have v7 : c = d → a7 2 = 1 := v7
  have v7' : ¬ c = d → a7 2 = 2 := v7'
  have h12 : a12 2 = c - a := h12
  have hgr : fd_b gr ↔ a ≤ c ∧ b ≤ d := hgr
  have hab : fd_b ab ↔ d - b = c - a := hab
  obtain ⟨l1, l2⟩ := fd_two hA hB ea eb hl
  obtain ⟨w1, w2⟩ := fd_apart hC hD ec ed
  refine fd_qmod hc (fd_qbound hc (fd_qdiff (fd_qline (if a = b then 0 else 1) ?_ ?_ (fd_qslope (if a = b then 0 else 2) ?_ ?_ (fd_qrise 0 ?_ ?_ (fd_qoff (if c - a = d - b then c - a else -1000) hc ?_ ?_ (fd_qrel (if c < a then 0 else if d < b then 0 else 1) ?_ ?_ (fd_qabs ?_))))))))
  · intro e
    by_cases z : a = b
    · exact absurd (e.symm.trans (l1 z)) (by decide)
    · rw [if_neg z]
      exact (l2 z).2.1
  · intro e
    by_cases z : a = b
    · rw [if_pos z]
    · exact absurd (l2 z).1 e
  · intro e
    by_cases z : a = b
    · exact absurd (e.symm.trans (l1 z)) (by decide)
    · rw [if_neg z]
      exact (l2 z).2.2.1
  · intro e
    by_cases z : a = b
    · rw [if_pos z]
    · exact absurd (l2 z).1 e
  · intro e
    by_cases z : a = b
    · exact absurd (e.symm.trans (l1 z)) (by decide)
    · exact (l2 z).2.2.2
  · intro _
    rfl
  · intro e
    rw [if_pos (hab.mp e).symm]
    exact h12
  · intro e
    rw [if_neg (fun z => e (hab.mpr z.symm))]
  · intro e
    rw [if_neg (Int32.not_lt.mpr (hgr.mp e).1), if_neg (Int32.not_lt.mpr (hgr.mp e).2)]
  · intro e
    by_cases z : c < a
    · rw [if_pos z]
    · by_cases z2 : d < b
      · rw [if_neg z, if_pos z2]
      · exact absurd (hgr.mpr ⟨Int32.not_lt.mp z, Int32.not_lt.mp z2⟩) e
  · have e9 := v5.trans w1
    have e10 := v3.trans fd_min
    have e11 : a7 2 = (if (if 0 ≤ c - d then c - d else -(c - d)) = 0 then 1 else 2) := by
      by_cases z : c = d
      · rw [if_pos (w2.mpr z)]
        exact v7 z
      · rw [if_neg (fun g => z (w2.mp g))]
        exact v7' z
    refine br_c (fun z => ?_) (fun z => ?_)
    · rw [if_pos z, if_pos z]
      exact fd_184 e9 e10 e11 (by decide) (by decide) rfl rfl rfl rfl
    · rw [if_neg z, if_neg z]
      exact fd_184 e9 e10 e11 (by decide) (by decide) rfl rfl rfl rfl
theorem fd_cell {post : Int32 → Prop} {xs : Nat → Int32} {L : Nat} (hL : L ≤ 4) (k : Nat) {p : Int32} (hp : p = nI k) (hk : k < 4) (H : ∀ v, post v) : wpL_cellAt post L xs () p := by
  rw [hp]
  exact pk_le L k (fun _ => H _) (fun z => ⟨vp_in_nI z (by omega), H _⟩)
theorem i_vc (xs : Nat → Int32) (L : Nat) (hL : L ≤ 4) : wpL_law (fun r => r = 1) L xs :=
  fd_cell hL 0 rfl (by omega) (fun r1 => fd_cell hL 1 rfl (by omega) (fun r2 => fd_cell hL 2 rfl (by omega) (fun r3 => fd_cell hL 3 rfl (by omega) (fun r4 => ⟨13, 139, by decide, by decide, fd_lawOf r1 r2 r3 r4⟩))))
end
