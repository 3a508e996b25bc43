section
/-! bits of an Int32 (the rows pq_ext .. pq_sshr began as the bits family of kit/laws/BITS.to-paste, renamed) -/
def pq_bt (x : Int32) (i : Nat) : Bool := x.toBitVec.getLsbD i
theorem pq_ext {x y : Int32} (h : ∀ i, i < 32 → pq_bt x i = pq_bt y i) : x = y := Int32.toBitVec_inj.mp (BitVec.eq_of_getLsbD_eq (fun i hi => h i hi))
theorem pq_or (x y : Int32) (i : Nat) : pq_bt (x ||| y) i = (pq_bt x i || pq_bt y i) := by unfold pq_bt; rw [Int32.toBitVec_or, BitVec.getLsbD_or]
theorem pq_and (x y : Int32) (i : Nat) : pq_bt (x &&& y) i = (pq_bt x i && pq_bt y i) := by unfold pq_bt; rw [Int32.toBitVec_and, BitVec.getLsbD_and]
theorem pq_xor (x y : Int32) (i : Nat) : pq_bt (x ^^^ y) i = (pq_bt x i ^^ pq_bt y i) := by unfold pq_bt; rw [Int32.toBitVec_xor, BitVec.getLsbD_xor]
theorem pq_m1 : ∀ i, i < 32 → pq_bt (-1) i = true := by decide +kernel
theorem pq_0 (i : Nat) : pq_bt 0 i = false := BitVec.getLsbD_zero
theorem pq_sl : ∀ n, n < 32 → ((nI n &&& 31).toBitVec.smod 32).toNat = n := by decide +kernel
theorem pq_shl (n : Nat) (hn : n < 32) (x : Int32) {i : Nat} (hi : i < 32) : pq_bt (x <<< (nI n &&& 31)) i = (decide (n ≤ i) && pq_bt x (i - n)) := by
  unfold pq_bt
  rw [Int32.toBitVec_shiftLeft]
  show (x.toBitVec <<< ((nI n &&& 31).toBitVec.smod 32).toNat).getLsbD i = _
  rw [pq_sl n hn, BitVec.getLsbD_shiftLeft]
  rcases Nat.lt_or_ge i n with h | h
  · simp [h, Nat.not_le.mpr h]
  · simp [hi, h, Nat.not_lt.mpr h]
theorem pq_sshr (n : Nat) (hn : n < 32) (x : Int32) {i : Nat} (hi : i < 32) : pq_bt (x >>> (nI n &&& 31)) i = if n + i < 32 then pq_bt x (n + i) else pq_bt x 31 := by
  unfold pq_bt
  rw [Int32.toBitVec_shiftRight]
  show (x.toBitVec.sshiftRight ((nI n &&& 31).toBitVec.smod 32).toNat).getLsbD i = _
  rw [pq_sl n hn, BitVec.getLsbD_sshiftRight, BitVec.msb_eq_getLsbD_last]
  simp [hi]
theorem pq_b1 : ∀ i, i < 32 → pq_bt 1 i = decide (i = 0) := by decide +kernel
theorem pq_one (n : Nat) (hn : n < 32) {i : Nat} (hi : i < 32) : pq_bt ((1 : Int32) <<< (nI n &&& 31)) i = decide (i = n) := by
  rw [pq_shl n hn 1 hi, pq_b1 _ (by omega)]
  by_cases h : i = n
  · rw [decide_eq_true h, decide_eq_true (by omega), decide_eq_true (by omega)]; rfl
  · rw [decide_eq_false h]
    by_cases g : n ≤ i
    · rw [decide_eq_true g, decide_eq_false (by omega)]; rfl
    · rw [decide_eq_false g]; rfl
theorem pq_not (x : Int32) {i : Nat} (hi : i < 32) : pq_bt (x ^^^ (-1)) i = !pq_bt x i := by
  rw [pq_xor, pq_m1 i hi]
  cases pq_bt x i <;> rfl
theorem pq_lo1 (y : Int32) : (y &&& 1) = 1 ↔ pq_bt y 0 = true := by
  constructor
  · intro h
    have e := congrArg (fun z => pq_bt z 0) h
    have e' : pq_bt (y &&& 1) 0 = pq_bt 1 0 := e
    rw [pq_and, pq_b1 0 (by decide)] at e'
    cases hb : pq_bt y 0
    · rw [hb] at e'; exact absurd e' (by decide)
    · rfl
  · intro h
    refine pq_ext (fun i hi => ?_)
    rw [pq_and, pq_b1 i hi]
    by_cases e : i = 0
    · rw [e, h]; rfl
    · rw [decide_eq_false e, Bool.and_false]
theorem pq_lo0 (y : Int32) : (y &&& 1) = 0 ↔ pq_bt y 0 = false := by
  constructor
  · intro h
    have e := congrArg (fun z => pq_bt z 0) h
    have e' : pq_bt (y &&& 1) 0 = pq_bt 0 0 := e
    rw [pq_and, pq_b1 0 (by decide), pq_0] at e'
    cases hb : pq_bt y 0
    · rfl
    · rw [hb] at e'; exact absurd e' (by decide)
  · intro h
    refine pq_ext (fun i hi => ?_)
    rw [pq_and, pq_b1 i hi, pq_0]
    by_cases e : i = 0
    · rw [e, h]; rfl
    · rw [decide_eq_false e, Bool.and_false]
theorem pq_tst (x : Int32) (n : Nat) (hn : n < 32) : ((x >>> (nI n &&& 31)) &&& 1) = 1 ↔ pq_bt x n = true := by
  rw [pq_lo1, pq_sshr n hn x (by decide), if_pos (by omega)]; rfl
theorem pq_tst0 (x : Int32) (n : Nat) (hn : n < 32) : ((x >>> (nI n &&& 31)) &&& 1) = 0 ↔ pq_bt x n = false := by
  rw [pq_lo0, pq_sshr n hn x (by decide), if_pos (by omega)]; rfl
/-- a zero mask: bit by bit -/
theorem pq_z {x : Int32} (h : ∀ i, i < 32 → pq_bt x i = false) : x = 0 := pq_ext (fun i hi => by rw [h i hi, pq_0])
theorem pq_beq {a b : Bool} (h : a = true ↔ b = true) : a = b := Bool.eq_iff_iff.mpr h
theorem pq_nf {x : Bool} (h : ¬ x = true) : x = false := by cases x <;> simp_all
/-- bit n set or cleared -/
theorem pq_set (x : Int32) (n : Nat) (hn : n < 32) {i : Nat} (hi : i < 32) : pq_bt (x ||| ((1 : Int32) <<< (nI n &&& 31))) i = true ↔ pq_bt x i = true ∨ i = n := by
  rw [pq_or, pq_one n hn hi, Bool.or_eq_true, decide_eq_true_eq]
theorem pq_clr (x : Int32) (n : Nat) (hn : n < 32) {i : Nat} (hi : i < 32) : pq_bt (x &&& (((1 : Int32) <<< (nI n &&& 31)) ^^^ (-1))) i = true ↔ pq_bt x i = true ∧ i ≠ n := by
  rw [pq_and, pq_not _ hi, pq_one n hn hi, Bool.and_eq_true, Bool.not_eq_true', decide_eq_false_iff_not]
theorem pq_setN (x : Int32) (n : Nat) (hn : n < 32) {i : Nat} (hi : i < 32) (h : i ≠ n) : pq_bt (x ||| ((1 : Int32) <<< (nI n &&& 31))) i = pq_bt x i := by
  rw [pq_or, pq_one n hn hi, decide_eq_false h, Bool.or_false]
theorem pq_clrN (x : Int32) (n : Nat) (hn : n < 32) {i : Nat} (hi : i < 32) (h : i ≠ n) : pq_bt (x &&& (((1 : Int32) <<< (nI n &&& 31)) ^^^ (-1))) i = pq_bt x i := by
  rw [pq_and, pq_not _ hi, pq_one n hn hi, decide_eq_false h, Bool.not_false, Bool.and_true]
theorem pq_clrS (x : Int32) (n : Nat) (hn : n < 32) : pq_bt (x &&& (((1 : Int32) <<< (nI n &&& 31)) ^^^ (-1))) n = false := by
  rw [pq_and, pq_not _ hn, pq_one n hn hn, decide_eq_true rfl, Bool.not_true, Bool.and_false]
/-- a place of a known range is a natural number -/
theorem pq_vn {x : Int32} {n : Nat} (h : vp_in x n) (hn : n < 2 ^ 31) : x = nI x.toNatClampNeg ∧ x.toNatClampNeg < n := by
  obtain ⟨j, hj, e⟩ := vp_in_of h hn
  have c : x.toNatClampNeg = j := by rw [e, nI_clamp (by omega)]
  rw [c]
  exact ⟨e, hj⟩
end
section
/-! the picture, with no program in sight -/
/-- clause i: its term is a place (a range clause has none) -/
def pq_wf (a4 a5 : Nat → Int32) (i : Nat) : Prop := ¬ a4 i = 4 → vp_in (a5 i) 24
/-- clause i holds -/
def pq_hd (nu : Int32) (a4 a5 a6 a9 a10 : Nat → Int32) (i : Nat) : Prop :=
  (a4 i = 0 → ¬ a9 (a5 i).toNatClampNeg ≤ 0) ∧ (a4 i = 1 → a9 (a5 i).toNatClampNeg = 0) ∧
  (a4 i = 3 → ((a10 (a5 i).toNatClampNeg >>> (a6 i &&& 31)) &&& 1) = 1) ∧ (a4 i = 4 → ¬ nu < a5 i ∧ ¬ a6 i < nu)
/-- clause i is a SHOULD that is met -/
def pq_m1c (a4 a5 a9 : Nat → Int32) (i : Nat) : Prop := a4 i = 2 ∧ ¬ a9 (a5 i).toNatClampNeg ≤ 0
noncomputable def pq_if (p : Prop) (a b : Nat) : Nat := @ite _ p (Classical.propDecidable p) a b
theorem pq_it {p : Prop} {a b : Nat} (h : p) : pq_if p a b = a := if_pos h
theorem pq_ie {p : Prop} {a b : Nat} (h : ¬ p) : pq_if p a b = b := if_neg h
/-- how many SHOULDs are met among the clauses b .. b + k - 1 -/
noncomputable def pq_mt (a4 a5 a9 : Nat → Int32) (b : Nat) : Nat → Nat
  | 0 => 0
  | j + 1 => pq_mt a4 a5 a9 b j + pq_if (pq_m1c a4 a5 a9 (b + j)) 1 0
/-- check(q) -/
def pq_ck (nu : Int32) (a2 a3 a4 a5 a6 a9 a10 : Nat → Int32) (q : Nat) : Prop :=
  (∀ j, j < (a3 q).toNatClampNeg → pq_hd nu a4 a5 a6 a9 a10 (q * 6 + j)) ∧ ¬ nI (pq_mt a4 a5 a9 (q * 6) (a3 q).toNatClampNeg) < a2 q
/-- matchesQuery(q) -/
def pq_ma (nu : Int32) (a1 a2 a3 a4 a5 a6 a9 a10 : Nat → Int32) (q : Nat) : Prop := ¬ a1 q = 0 ∧ pq_ck nu a2 a3 a4 a5 a6 a9 a10 q
/-- what clause i adds to the score -/
noncomputable def pq_s1 (a4 a5 a9 : Nat → Int32) (i : Nat) : Nat :=
  pq_if (a4 i = 0 ∨ a4 i = 2) (a9 (a5 i).toNatClampNeg).toNatClampNeg (pq_if (a4 i = 3) 5 0)
noncomputable def pq_sk (a4 a5 a9 : Nat → Int32) (b : Nat) : Nat → Nat
  | 0 => 0
  | j + 1 => pq_sk a4 a5 a9 b j + pq_s1 a4 a5 a9 (b + j)
/-- scoreOf(q) -/
noncomputable def pq_sc (a3 a4 a5 a9 : Nat → Int32) (q : Nat) : Nat := pq_sk a4 a5 a9 (q * 6) (a3 q).toNatClampNeg
/-- clause i is sure -/
def pq_su (a4 : Nat → Int32) (i : Nat) : Prop := a4 i = 0 ∨ a4 i = 3
/-- query q is filed as it should be -/
def pq_FO (al : Int32) (a2 a3 a4 a5 a7 : Nat → Int32) (q : Nat) : Prop :=
  pq_bt al q = true ∨ (∃ j, j < (a3 q).toNatClampNeg ∧ pq_su a4 (q * 6 + j) ∧ pq_bt (a7 (a5 (q * 6 + j)).toNatClampNeg) q = true) ∨
  (¬ a2 q = 0 ∧ ∀ j, j < (a3 q).toNatClampNeg → a4 (q * 6 + j) = 2 → pq_bt (a7 (a5 (q * 6 + j)).toNatClampNeg) q = true)
/-- the clauses of query q -/
def pq_C (a3 a4 a5 : Nat → Int32) (q : Nat) : Prop := vp_in (a3 q) 7 ∧ ∀ j, j < (a3 q).toNatClampNeg → pq_wf a4 a5 (q * 6 + j)
/-- query q: its clauses, its filing, the law's 'negative' -/
def pq_Q (ng al : Int32) (a1 a2 a3 a4 a5 a7 : Nat → Int32) (q : Nat) : Prop :=
  pq_C a3 a4 a5 q ∧ ¬ a2 q < 0 ∧ (a1 q = 0 → pq_bt al q = false ∧ ∀ t, t < 24 → pq_bt (a7 t) q = false) ∧
  (¬ a1 q = 0 → pq_FO al a2 a3 a4 a5 a7 q ∧ ∀ j, j < (a3 q).toNatClampNeg → a4 (q * 6 + j) = 1 → pq_bt ng q = true)
/-- the document -/
def pq_D (wo lw : Int32) (a9 a10 : Nat → Int32) : Prop :=
  ∃ w, w ≤ 16 ∧ wo = nI w ∧ (∀ t, t < 24 → ∃ c, c ≤ w ∧ a9 t = nI c) ∧ (∀ t, t < 24 → a9 t = 0 → a10 t = 0) ∧ (lw < 0 ∨ ∃ l, l < 24 ∧ lw = nI l ∧ ¬ a9 l = 0)
def pq_Inv (ng al wo lw : Int32) (a1 a2 a3 a4 a5 a7 a9 a10 : Nat → Int32) : Prop := pq_D wo lw a9 a10 ∧ ∀ q, q < 12 → pq_Q ng al a1 a2 a3 a4 a5 a7 q
/-! kinds of a clause -/
section
variable {nu : Int32} {a4 a5 a6 a9 a10 : Nat → Int32} {i : Nat}
theorem pq_hd0 (e : a4 i = 0) : pq_hd nu a4 a5 a6 a9 a10 i ↔ ¬ a9 (a5 i).toNatClampNeg ≤ 0 :=
  ⟨fun h => h.1 e, fun h => ⟨fun _ => h, fun z => absurd (e.symm.trans z) (by decide), fun z => absurd (e.symm.trans z) (by decide), fun z => absurd (e.symm.trans z) (by decide)⟩⟩
theorem pq_hd1 (e : a4 i = 1) : pq_hd nu a4 a5 a6 a9 a10 i ↔ a9 (a5 i).toNatClampNeg = 0 :=
  ⟨fun h => h.2.1 e, fun h => ⟨fun z => absurd (e.symm.trans z) (by decide), fun _ => h, fun z => absurd (e.symm.trans z) (by decide), fun z => absurd (e.symm.trans z) (by decide)⟩⟩
theorem pq_hd3 (e : a4 i = 3) : pq_hd nu a4 a5 a6 a9 a10 i ↔ ((a10 (a5 i).toNatClampNeg >>> (a6 i &&& 31)) &&& 1) = 1 :=
  ⟨fun h => h.2.2.1 e, fun h => ⟨fun z => absurd (e.symm.trans z) (by decide), fun z => absurd (e.symm.trans z) (by decide), fun _ => h, fun z => absurd (e.symm.trans z) (by decide)⟩⟩
theorem pq_hd4 (e : a4 i = 4) : pq_hd nu a4 a5 a6 a9 a10 i ↔ ¬ nu < a5 i ∧ ¬ a6 i < nu :=
  ⟨fun h => h.2.2.2 e, fun h => ⟨fun z => absurd (e.symm.trans z) (by decide), fun z => absurd (e.symm.trans z) (by decide), fun z => absurd (e.symm.trans z) (by decide), fun _ => h⟩⟩
theorem pq_hdx (h0 : ¬ a4 i = 0) (h1 : ¬ a4 i = 1) (h3 : ¬ a4 i = 3) (h4 : ¬ a4 i = 4) : pq_hd nu a4 a5 a6 a9 a10 i :=
  ⟨fun z => absurd z h0, fun z => absurd z h1, fun z => absurd z h3, fun z => absurd z h4⟩
theorem pq_wf' (h : pq_wf a4 a5 i) {k : Int32} (e : a4 i = k) (hk : ¬ k = 4) : vp_in (a5 i) 24 := h (fun z => hk (e.symm.trans z))
end
end
section
/-! noQuery, holds, check, matchesQuery, matching -/
theorem pq_cl {q : Nat} (h : q < 2 ^ 31) : (nI q).toNatClampNeg = q := nI_clamp h
theorem pq_en {a3 : Nat → Int32} {q : Nat} (hq : q < 12) (h : vp_in (a3 q) 7) : nI q * 6 + a3 (nI q).toNatClampNeg = nI (q * 6 + (a3 q).toNatClampNeg) := by
  have e6 : nI q * 6 = nI (q * 6) := pk_mul q 6
  rw [nI_clamp (show q < 2 ^ 31 by omega), e6, ← nI_add, ← (pq_vn h (by decide)).1]
section
variable {al wo nu lw fo : Int32} {a1 a2 a3 a4 a5 a6 a7 a8 a9 a10 a11 a12 : Nat → Int32} {post : Int32 → Prop}
theorem pq_noQ {q : Nat} (hq : q < 12) (h1 : a1 q = 0 → post 1) (h0 : ¬ a1 q = 0 → post 0) : wpX_noQuery post (al, wo, nu, lw, fo, a1, a2, a3, a4, a5, a6, a7, a8, a9, a10, a11, a12) (nI q) := by
  have c : (nI q).toNatClampNeg = q := nI_clamp (by omega)
  refine br_f (nI_pos (by omega)) (pk_le 12 q (fun z => absurd z (by omega)) (fun _ => ⟨pk_in q 12 hq, ?_⟩))
  rw [c]
  exact ⟨h1, h0⟩
theorem pq_holds {i : Nat} (hi : i < 72) (wf : pq_wf a4 a5 i) (h1 : pq_hd nu a4 a5 a6 a9 a10 i → post 1) (h0 : ¬ pq_hd nu a4 a5 a6 a9 a10 i → post 0) : wpX_holds post (al, wo, nu, lw, fo, a1, a2, a3, a4, a5, a6, a7, a8, a9, a10, a11, a12) (nI i) := by
  have c : (nI i).toNatClampNeg = i := nI_clamp (by omega)
  have v : vp_in (nI i) 72 := pk_in i 72 hi
  refine ⟨v, fun k ek => ?_⟩
  rw [c] at ek ⊢
  subst ek
  refine br_c (fun z => h1 ?_) (fun _ => br_c (fun z => h1 ?_) (fun _ => br_c (fun e => ⟨v, pq_wf' wf e (by decide), br_c (fun z => h0 (fun t => (pq_hd0 e).mp t z)) (fun z => h1 ((pq_hd0 e).mpr z))⟩) (fun n0 => br_c (fun e => ⟨v, pq_wf' wf e (by decide), br_c (fun z => h1 ((pq_hd1 e).mpr z)) (fun z => h0 (fun t => z ((pq_hd1 e).mp t)))⟩) (fun n1 => br_c (fun e => h1 ?_) (fun n2 => br_c (fun e => ⟨v, pq_wf' wf e (by decide), v, br_c (fun z => h1 ((pq_hd3 e).mpr z)) (fun z => h0 (fun t => z ((pq_hd3 e).mp t)))⟩) (fun n3 => br_c (fun e => ⟨v, br_c (fun z => h0 (fun t => ((pq_hd4 e).mp t).1 z)) (fun z => ⟨v, br_c (fun y => h0 (fun t => ((pq_hd4 e).mp t).2 y)) (fun y => h1 ((pq_hd4 e).mpr ⟨z, y⟩))⟩)⟩) (fun _ => trivial)))))))
  · refine pq_hdx ?_ ?_ ?_ ?_ <;> (intro e; rw [e] at z; exact absurd z (by decide))
  · refine pq_hdx ?_ ?_ ?_ ?_ <;> (intro e; rw [e] at z; exact absurd z (by decide))
  · refine pq_hdx ?_ ?_ ?_ ?_ <;> (intro y; rw [e] at y; exact absurd y (by decide))
theorem pq_check {q : Nat} (hq : q < 12) (C : pq_C a3 a4 a5 q) (h1 : pq_ck nu a2 a3 a4 a5 a6 a9 a10 q → post 1) (h0 : ¬ pq_ck nu a2 a3 a4 a5 a6 a9 a10 q → post 0) : wpX_check post (al, wo, nu, lw, fo, a1, a2, a3, a4, a5, a6, a7, a8, a9, a10, a11, a12) (nI q) := by
  have c : (nI q).toNatClampNeg = q := nI_clamp (by omega)
  have v : vp_in (nI q) 12 := pk_in q 12 hq
  obtain ⟨C1, C2⟩ := C
  obtain ⟨ek, hk⟩ := pq_vn C1 (by decide)
  have en := pq_en hq C1
  refine nm_r (pk_mul q 6) ?_
  refine pk_loop (σ := Unit) (fun n j _ => wX_check_7 post (nI q) al wo nu lw fo a1 a2 a3 a4 a5 a6 a7 a8 a9 a10 a11 a12 n (nI (pq_mt a4 a5 a9 (q * 6) j)) (nI (q * 6 + j))) (fun j _ => ∀ j', j' < j → pq_hd nu a4 a5 a6 a9 a10 (q * 6 + j')) (a3 q).toNatClampNeg 0 () (Nat.zero_le _) (fun j h => absurd h (Nat.not_lt_zero _)) ?_ ?_
  · intro n s I
    refine ⟨v, pk_le (q * 6 + (a3 q).toNatClampNeg) (q * 6 + (a3 q).toNatClampNeg) (fun _ => ⟨v, ?_⟩) (fun z => absurd z (Nat.lt_irrefl _)) en rfl (by omega) (by omega)⟩
    rw [c]
    exact br_c (fun z => h0 (fun t => t.2 z)) (fun z => h1 ⟨I, z⟩)
  · intro n j s hj I hw
    have vi : vp_in (nI (q * 6 + j)) 72 := pk_in (q * 6 + j) 72 (by omega)
    have ci : (nI (q * 6 + j)).toNatClampNeg = q * 6 + j := nI_clamp (by omega)
    refine ⟨v, pk_le (q * 6 + (a3 q).toNatClampNeg) (q * 6 + j) (fun z => absurd z (by omega)) (fun _ => pq_holds (by omega) (C2 j hj) (fun hd => br_f (by decide) ?_) (fun nh => br_t rfl (h0 (fun t => nh (t.1 j hj))))) en rfl (by omega) (by omega)⟩
    have w : wX_check_7 post (nI q) al wo nu lw fo a1 a2 a3 a4 a5 a6 a7 a8 a9 a10 a11 a12 n (nI (pq_mt a4 a5 a9 (q * 6) j + pq_if (pq_m1c a4 a5 a9 (q * 6 + j)) 1 0)) (nI (q * 6 + j + 1)) := hw () (lt_s I hd)
    refine ⟨vi, ?_⟩
    rw [ci]
    refine br_c (fun e2 => ⟨vi, pq_wf' (C2 j hj) e2 (by decide), br_c (fun z => nm_r (nI_1 _) ?_) (fun z => nm_r (nI_1 _) (nm_r (nI_1 _) ?_))⟩) (fun e2 => nm_r (nI_1 _) ?_)
    · rw [pq_ie (fun t => t.2 z)] at w
      exact w
    · rw [pq_it ⟨e2, z⟩] at w
      exact w
    · rw [pq_ie (fun t => e2 t.1)] at w
      exact w
theorem pq_mq {q : Nat} (hq : q < 12) (C : pq_C a3 a4 a5 q) (h1 : pq_ma nu a1 a2 a3 a4 a5 a6 a9 a10 q → post 1) (h0 : ¬ pq_ma nu a1 a2 a3 a4 a5 a6 a9 a10 q → post 0) : wpX_matchesQuery post (al, wo, nu, lw, fo, a1, a2, a3, a4, a5, a6, a7, a8, a9, a10, a11, a12) (nI q) := by
  unfold wpX_matchesQuery
  exact pq_noQ hq (fun e => br_f (by decide) (h0 (fun t => t.1 e))) (fun e => br_t rfl (pq_check hq C (fun k => ⟨rfl, h1 ⟨e, k⟩⟩) (fun k => ⟨rfl, h0 (fun t => k t.2)⟩)))
/-- the bits of matching's answer -/
def pq_B (M : Nat → Prop) (r : Int32) : Prop := ∀ i, i < 32 → (pq_bt r i = true ↔ i < 12 ∧ M i)
theorem pq_matching (hC : ∀ q, q < 12 → pq_C a3 a4 a5 q) (H : ∀ r, pq_B (pq_ma nu a1 a2 a3 a4 a5 a6 a9 a10) r → post r) : wpL_matching post (al, wo, nu, lw, fo, a1, a2, a3, a4, a5, a6, a7, a8, a9, a10, a11, a12) := by
  unfold wpL_matching
  refine pk_loop (fun n j s => wL_matching_4 post al wo nu lw fo a1 a2 a3 a4 a5 a6 a7 a8 a9 a10 a11 a12 n s (nI j)) (fun j s => ∀ i, i < 32 → (pq_bt s i = true ↔ i < j ∧ pq_ma nu a1 a2 a3 a4 a5 a6 a9 a10 i)) 12 0 (0 : Int32) (by omega) (fun i hi => ?_) ?_ ?_
  · rw [pq_0]
    exact ⟨fun z => absurd z (by decide), fun z => absurd z.1 (Nat.not_lt_zero _)⟩
  · intro n s I
    exact pk_le 12 12 (fun _ => H s I) (fun z => absurd z (by omega))
  · intro n j s hj I hw
    refine pk_le 12 j (fun z => absurd z (by omega)) (fun _ => pq_mq hj (hC j hj) (fun m => br_f (by decide) (nm_e (nm_r (nI_1 j) (hw _ ?_)))) (fun m => br_t rfl (nm_r (nI_1 j) (hw _ ?_))))
    · intro i hi
      rw [pq_set s j (by omega) hi, I i hi]
      constructor
      · rintro (⟨a, b⟩ | e)
        · exact ⟨by omega, b⟩
        · rw [e]
          exact ⟨by omega, m⟩
      · rintro ⟨a, b⟩
        by_cases e : i = j
        · exact Or.inr e
        · exact Or.inl ⟨by omega, b⟩
    · intro i hi
      rw [I i hi]
      constructor
      · rintro ⟨a, b⟩
        exact ⟨by omega, b⟩
      · rintro ⟨a, b⟩
        refine ⟨?_, b⟩
        by_cases e : i = j
        · rw [e] at b
          exact absurd b m
        · omega
end
end
section
/-! the found list, purely: insertion behind all that are at least as good -/
def pq_pos (S : Nat → Nat) (s : Nat) (F : Nat → Nat) : Nat → Nat
  | 0 => 0
  | p + 1 => if S (F p) < s then pq_pos S s F p else p + 1
def pq_ins (F : Nat → Nat) (p q : Nat) : Nat → Nat := fun j => if j < p then F j else if j = p then q else F (j - 1)
noncomputable def pq_fd (M : Nat → Prop) (S : Nat → Nat) : Nat → Nat × (Nat → Nat)
  | 0 => (0, fun _ => 0)
  | q + 1 => @ite _ (M q) (Classical.propDecidable _) ((pq_fd M S q).1 + 1, pq_ins (pq_fd M S q).2 (pq_pos S (S q) (pq_fd M S q).2 (pq_fd M S q).1) q) (pq_fd M S q)
theorem pq_fdT {M : Nat → Prop} {S : Nat → Nat} {q : Nat} (h : M q) : pq_fd M S (q + 1) = ((pq_fd M S q).1 + 1, pq_ins (pq_fd M S q).2 (pq_pos S (S q) (pq_fd M S q).2 (pq_fd M S q).1) q) := if_pos h
theorem pq_fdN {M : Nat → Prop} {S : Nat → Nat} {q : Nat} (h : ¬ M q) : pq_fd M S (q + 1) = pq_fd M S q := if_neg h
theorem pq_insL {F : Nat → Nat} {p q j : Nat} (h : j < p) : pq_ins F p q j = F j := if_pos h
theorem pq_insE {F : Nat → Nat} {p q : Nat} : pq_ins F p q p = q := by
  unfold pq_ins
  rw [if_neg (by omega), if_pos rfl]
theorem pq_insG {F : Nat → Nat} {p q j : Nat} (h : p ≤ j) : pq_ins F p q (j + 1) = F j := by
  unfold pq_ins
  rw [if_neg (by omega), if_neg (by omega)]
  rfl
section
variable {S F : Nat → Nat} {s : Nat}
theorem pq_posT {p : Nat} (h : S (F p) < s) : pq_pos S s F (p + 1) = pq_pos S s F p := if_pos h
theorem pq_posN {p : Nat} (h : ¬ S (F p) < s) : pq_pos S s F (p + 1) = p + 1 := if_neg h
theorem pq_posLe (n : Nat) : pq_pos S s F n ≤ n := by
  induction n with
  | zero => exact Nat.le_refl _
  | succ p ih =>
    by_cases h : S (F p) < s
    · rw [pq_posT h]; omega
    · rw [pq_posN h]; omega
theorem pq_posHi (n : Nat) : ∀ j, pq_pos S s F n ≤ j → j < n → S (F j) < s := by
  induction n with
  | zero => intro j _ h; omega
  | succ p ih =>
    intro j h1 h2
    by_cases h : S (F p) < s
    · rw [pq_posT h] at h1
      by_cases e : j = p
      · rw [e]; exact h
      · exact ih j h1 (by omega)
    · rw [pq_posN h] at h1; omega
theorem pq_posLo (n : Nat) : ∀ p, pq_pos S s F n = p + 1 → s ≤ S (F p) := by
  induction n with
  | zero => intro p h; exact absurd h (by show ¬ 0 = p + 1; omega)
  | succ k ih =>
    intro p e
    by_cases h : S (F k) < s
    · rw [pq_posT h] at e
      exact ih p e
    · rw [pq_posN h] at e
      have : k = p := by omega
      rw [← this]; omega
end
/-- best first: a higher score, or the same and a lower number -/
def pq_lt (S : Nat → Nat) (a b : Nat) : Prop := S b < S a ∨ (S a = S b ∧ a < b)
def pq_SO (S : Nat → Nat) (n : Nat) (F : Nat → Nat) : Prop := ∀ i j, i < j → j < n → pq_lt S (F i) (F j)
theorem pq_soIns {S F : Nat → Nat} {n q : Nat} (h : pq_SO S n F) (hF : ∀ j, j < n → F j < q) : pq_SO S (n + 1) (pq_ins F (pq_pos S (S q) F n) q) := by
  have ple : pq_pos S (S q) F n ≤ n := pq_posLe n
  have phi := pq_posHi (S := S) (F := F) (s := S q) n
  have plo := pq_posLo (S := S) (F := F) (s := S q) n
  revert ple phi plo
  generalize pq_pos S (S q) F n = p
  intro ple phi plo i j hij hj
  rcases Nat.lt_trichotomy j p with c | c | c
  · rw [pq_insL c, pq_insL (by omega)]
    exact h i j hij (by omega)
  · subst c
    rw [pq_insE, pq_insL hij]
    have hi := hF i (by omega)
    have l : S q ≤ S (F i) := by
      obtain ⟨p', ep⟩ : ∃ p', j = p' + 1 := ⟨j - 1, by omega⟩
      have b := plo p' ep
      by_cases e : i = p'
      · rw [e]; exact b
      · rcases h i p' (by omega) (by omega) with d | d
        · omega
        · omega
    by_cases e : S (F i) = S q
    · exact Or.inr ⟨e, hi⟩
    · exact Or.inl (by omega)
  · obtain ⟨j', ej⟩ : ∃ j', j = j' + 1 := ⟨j - 1, by omega⟩
    subst ej
    rw [pq_insG (by omega)]
    rcases Nat.lt_trichotomy i p with d | d | d
    · rw [pq_insL d]
      exact h i j' (by omega) (by omega)
    · subst d
      rw [pq_insE]
      exact Or.inl (phi j' (by omega) (by omega))
    · obtain ⟨i', ei⟩ : ∃ i', i = i' + 1 := ⟨i - 1, by omega⟩
      subst ei
      rw [pq_insG (by omega)]
      exact h i' j' (by omega) (by omega)
/-- all that is known of the list -/
def pq_L (M : Nat → Prop) (S : Nat → Nat) (q : Nat) (g : Nat × (Nat → Nat)) : Prop :=
  g.1 ≤ q ∧ (∀ j, j < g.1 → g.2 j < q ∧ M (g.2 j)) ∧ (∀ k, k < q → M k → ∃ j, j < g.1 ∧ g.2 j = k) ∧ pq_SO S g.1 g.2
theorem pq_Lfd (M : Nat → Prop) (S : Nat → Nat) (q : Nat) : pq_L M S q (pq_fd M S q) := by
  induction q with
  | zero => exact ⟨Nat.le_refl _, fun j h => absurd h (Nat.not_lt_zero j), fun k h => absurd h (Nat.not_lt_zero k), fun i j _ h => absurd h (Nat.not_lt_zero j)⟩
  | succ q ih =>
    obtain ⟨i1, i2, i3, i4⟩ := ih
    by_cases h : M q
    · rw [pq_fdT h]
      refine ⟨?_, ?_, ?_, ?_⟩
      · show (pq_fd M S q).1 + 1 ≤ q + 1
        omega
      · show ∀ j, j < (pq_fd M S q).1 + 1 → pq_ins (pq_fd M S q).2 (pq_pos S (S q) (pq_fd M S q).2 (pq_fd M S q).1) q j < q + 1 ∧ M (pq_ins (pq_fd M S q).2 (pq_pos S (S q) (pq_fd M S q).2 (pq_fd M S q).1) q j)
        have ple : pq_pos S (S q) (pq_fd M S q).2 (pq_fd M S q).1 ≤ (pq_fd M S q).1 := pq_posLe _
        revert ple
        generalize pq_pos S (S q) (pq_fd M S q).2 (pq_fd M S q).1 = p
        intro ple j hj
        rcases Nat.lt_trichotomy j p with c | c | c
        · rw [pq_insL c]
          have b := i2 j (by omega)
          exact ⟨by omega, b.2⟩
        · rw [c, pq_insE]
          exact ⟨by omega, h⟩
        · obtain ⟨j', ej⟩ : ∃ j', j = j' + 1 := ⟨j - 1, by omega⟩
          subst ej
          rw [pq_insG (by omega)]
          have b := i2 j' (by omega)
          exact ⟨by omega, b.2⟩
      · show ∀ k, k < q + 1 → M k → ∃ j, j < (pq_fd M S q).1 + 1 ∧ pq_ins (pq_fd M S q).2 (pq_pos S (S q) (pq_fd M S q).2 (pq_fd M S q).1) q j = k
        have ple : pq_pos S (S q) (pq_fd M S q).2 (pq_fd M S q).1 ≤ (pq_fd M S q).1 := pq_posLe _
        revert ple
        generalize pq_pos S (S q) (pq_fd M S q).2 (pq_fd M S q).1 = p
        intro ple k hk hm
        by_cases e : k = q
        · exact ⟨p, by omega, by rw [pq_insE, e]⟩
        · obtain ⟨j, hj, ej⟩ := i3 k (by omega) hm
          by_cases c : j < p
          · exact ⟨j, by omega, by rw [pq_insL c, ej]⟩
          · exact ⟨j + 1, by omega, by rw [pq_insG (by omega), ej]⟩
      · exact pq_soIns i4 (fun j hj => (i2 j hj).1)
    · rw [pq_fdN h]
      refine ⟨by omega, fun j hj => ⟨Nat.lt_succ_of_lt (i2 j hj).1, (i2 j hj).2⟩, fun k hk hm => ?_, i4⟩
      by_cases e : k = q
      · rw [e] at hm
        exact absurd hm h
      · exact i3 k (by omega) hm
end
section
/-! scoreOf, keep, percolate -/
section
variable {a3 a4 a5 a9 : Nat → Int32}
theorem pq_skB {b k : Nat} (wf : ∀ j, j < k → pq_wf a4 a5 (b + j)) (h9 : ∀ t, t < 24 → vp_in (a9 t) 17) : ∀ j, j ≤ k → pq_sk a4 a5 a9 b j ≤ j * 16 := by
  intro j
  induction j with
  | zero => intro _; exact Nat.le_refl _
  | succ j ih =>
    intro hj
    have i := ih (by omega)
    have s : pq_s1 a4 a5 a9 (b + j) ≤ 16 := by
      unfold pq_s1
      by_cases e : a4 (b + j) = 0 ∨ a4 (b + j) = 2
      · rw [pq_it e]
        have v : vp_in (a5 (b + j)) 24 := by
          rcases e with e | e
          · exact pq_wf' (wf j (by omega)) e (by decide)
          · exact pq_wf' (wf j (by omega)) e (by decide)
        have z := (pq_vn (h9 _ (pq_vn v (by decide)).2) (by decide)).2
        omega
      · rw [pq_ie e]
        by_cases f : a4 (b + j) = 3
        · rw [pq_it f]; omega
        · rw [pq_ie f]; omega
    show pq_sk a4 a5 a9 b j + pq_s1 a4 a5 a9 (b + j) ≤ (j + 1) * 16
    omega
theorem pq_scB {q : Nat} (C : pq_C a3 a4 a5 q) (h9 : ∀ t, t < 24 → vp_in (a9 t) 17) : pq_sc a3 a4 a5 a9 q ≤ 96 := by
  have h := pq_skB C.2 h9 (a3 q).toNatClampNeg (Nat.le_refl _)
  have k := (pq_vn C.1 (by decide)).2
  unfold pq_sc
  omega
end
section
variable {al wo nu lw fo : Int32} {a1 a2 a3 a4 a5 a6 a7 a8 a9 a10 a11 a12 : Nat → Int32} {post : Int32 → Prop}
theorem pq_s55 {J7 : Int32 → Int32 → Prop} {x1 x2 : Int32} {i : Nat} (hi : i < 72) (h3 : a4 i = 3 → J7 (x2 + 5) (nI (i + 1))) (hn : ¬ a4 i = 3 → J7 x2 (nI (i + 1))) : wX_scoreOf_55 post J7 x1 x2 (nI i) al wo nu lw fo a1 a2 a3 a4 a5 a6 a7 a8 a9 a10 a11 a12 := by
  have c : (nI i).toNatClampNeg = i := nI_clamp (by omega)
  refine ⟨pk_in i 72 hi, ?_⟩
  rw [c]
  exact br_c (fun e => nm_e (nm_r (nI_1 i) (h3 e))) (fun e => nm_r (nI_1 i) (hn e))
theorem pq_s41 {J7 : Int32 → Int32 → Prop} {x1 x2 : Int32} {i : Nat} (hi : i < 72) (v : vp_in (a5 i) 24) (h3 : ¬ a4 i = 3) (H : J7 (x2 + a9 (a5 i).toNatClampNeg) (nI (i + 1))) : wX_scoreOf_41 post J7 x1 x2 (nI i) al wo nu lw fo a1 a2 a3 a4 a5 a6 a7 a8 a9 a10 a11 a12 := by
  have c : (nI i).toNatClampNeg = i := nI_clamp (by omega)
  refine ⟨pk_in i 72 hi, ?_⟩
  rw [c]
  exact ⟨v, nm_e (pq_s55 hi (fun z => absurd z h3) (fun _ => H))⟩
theorem pq_scoreOf {q : Nat} (hq : q < 12) (C : pq_C a3 a4 a5 q) (h9 : ∀ t, t < 24 → vp_in (a9 t) 17) (H : post (nI (pq_sc a3 a4 a5 a9 q))) : wpX_scoreOf post (al, wo, nu, lw, fo, a1, a2, a3, a4, a5, a6, a7, a8, a9, a10, a11, a12) (nI q) := by
  have v : vp_in (nI q) 12 := pk_in q 12 hq
  obtain ⟨C1, C2⟩ := C
  obtain ⟨ek, hk⟩ := pq_vn C1 (by decide)
  have en := pq_en hq C1
  refine nm_r (pk_mul q 6) ?_
  refine pk_loop (σ := Unit) (fun n j _ => wX_scoreOf_7 post (nI q) al wo nu lw fo a1 a2 a3 a4 a5 a6 a7 a8 a9 a10 a11 a12 n (nI (pq_sk a4 a5 a9 (q * 6) j)) (nI (q * 6 + j))) (fun j _ => True) (a3 q).toNatClampNeg 0 () (Nat.zero_le _) trivial ?_ ?_
  · intro n s I
    exact ⟨v, pk_le (q * 6 + (a3 q).toNatClampNeg) (q * 6 + (a3 q).toNatClampNeg) (fun _ => H) (fun z => absurd z (Nat.lt_irrefl _)) en rfl (by omega) (by omega)⟩
  · intro n j s hj I hw
    have vi : vp_in (nI (q * 6 + j)) 72 := pk_in (q * 6 + j) 72 (by omega)
    have ci : (nI (q * 6 + j)).toNatClampNeg = q * 6 + j := nI_clamp (by omega)
    have w : wX_scoreOf_7 post (nI q) al wo nu lw fo a1 a2 a3 a4 a5 a6 a7 a8 a9 a10 a11 a12 n (nI (pq_sk a4 a5 a9 (q * 6) j + pq_s1 a4 a5 a9 (q * 6 + j))) (nI (q * 6 + j + 1)) := hw () trivial
    rw [← nI_add] at w
    refine ⟨v, pk_le (q * 6 + (a3 q).toNatClampNeg) (q * 6 + j) (fun z => absurd z (by omega)) (fun _ => ⟨vi, ?_⟩) en rfl (by omega) (by omega)⟩
    rw [ci]
    have A : a4 (q * 6 + j) = 0 ∨ a4 (q * 6 + j) = 2 → vp_in (a5 (q * 6 + j)) 24 ∧ ¬ a4 (q * 6 + j) = 3 ∧ wX_scoreOf_7 post (nI q) al wo nu lw fo a1 a2 a3 a4 a5 a6 a7 a8 a9 a10 a11 a12 n (nI (pq_sk a4 a5 a9 (q * 6) j) + a9 (a5 (q * 6 + j)).toNatClampNeg) (nI (q * 6 + j + 1)) := by
      intro e
      have v5 : vp_in (a5 (q * 6 + j)) 24 := by
        rcases e with e | e
        · exact pq_wf' (C2 j hj) e (by decide)
        · exact pq_wf' (C2 j hj) e (by decide)
      refine ⟨v5, ?_, ?_⟩
      · rcases e with e | e
        · rw [e]; decide
        · rw [e]; decide
      · rw [show pq_s1 a4 a5 a9 (q * 6 + j) = (a9 (a5 (q * 6 + j)).toNatClampNeg).toNatClampNeg from pq_it e, ← (pq_vn (h9 _ (pq_vn v5 (by decide)).2) (by decide)).1] at w
        exact w
    refine br_c (fun e => ?_) (fun n0 => ⟨vi, br_c (fun e => ?_) (fun n2 => ?_)⟩)
    · obtain ⟨b1, b2, b3⟩ := A (Or.inl e)
      exact pq_s41 (by omega) b1 b2 b3
    · obtain ⟨b1, b2, b3⟩ := A (Or.inr e)
      exact pq_s41 (by omega) b1 b2 b3
    · have n02 : ¬ (a4 (q * 6 + j) = 0 ∨ a4 (q * 6 + j) = 2) := fun z => z.elim n0 n2
      refine pq_s55 (by omega) (fun e => ?_) (fun e => ?_)
      · rw [show pq_s1 a4 a5 a9 (q * 6 + j) = 5 from (pq_ie n02).trans (pq_it e)] at w
        exact w
      · rw [show pq_s1 a4 a5 a9 (q * 6 + j) = 0 from (pq_ie n02).trans (pq_ie e), nI_0, Int32.add_zero] at w
        exact w
end
/-- the arrays hold the list -/
def pq_Rep (S : Nat → Nat) (n : Nat) (F : Nat → Nat) (b11 b12 : Nat → Int32) : Prop := ∀ j, j < n → b11 j = nI (F j) ∧ b12 j = nI (S (F j))
section
variable {al wo nu lw fo : Int32} {a1 a2 a3 a4 a5 a6 a7 a8 a9 a10 a11 a12 : Nat → Int32} {post : St1 → Prop}
theorem pq_keep61 {x1 x2 : Int32} {p n : Nat} (hp : p < 12) (H : post (al, wo, nu, lw, nI (n + 1), a1, a2, a3, a4, a5, a6, a7, a8, a9, a10, upd a11 p x1, upd a12 p x2)) : wX_keep_61 post x1 x2 (nI p) al wo nu lw (nI n) a1 a2 a3 a4 a5 a6 a7 a8 a9 a10 a11 a12 := by
  have c : (nI p).toNatClampNeg = p := nI_clamp (by omega)
  refine ⟨pk_in p 12 hp, ?_⟩
  rw [c]
  exact nm_e ⟨pk_in p 12 hp, nm_e (nm_r (nI_1 n) H)⟩
theorem pq_keepX {S F : Nat → Nat} {q n p : Nat} {b11 b12 : Nat → Int32} (hp : p ≤ n) (lo : ∀ j, j < p → b11 j = nI (F j) ∧ b12 j = nI (S (F j))) (hi : ∀ j, p ≤ j → j < n → b11 (j + 1) = nI (F j) ∧ b12 (j + 1) = nI (S (F j))) :
    pq_Rep S (n + 1) (pq_ins F p q) (upd b11 p (nI q)) (upd b12 p (nI (S q))) := by
  intro j hj
  rcases Nat.lt_trichotomy j p with c | c | c
  · rw [pk_un (by omega), pk_un (by omega), pq_insL c]
    exact lo j c
  · subst c
    rw [pk_us, pk_us, pq_insE]
    exact ⟨rfl, rfl⟩
  · obtain ⟨j', ej⟩ : ∃ j', j = j' + 1 := ⟨j - 1, by omega⟩
    subst ej
    rw [pk_un (by omega), pk_un (by omega), pq_insG (by omega)]
    exact hi j' (by omega) (by omega)
theorem pq_keep11 {S F : Nat → Nat} {q n : Nat} (hn : n < 12) (hs : S q < 2 ^ 31) (hS : ∀ j, j < n → S (F j) < 2 ^ 31)
    (H : ∀ b11 b12, pq_Rep S (n + 1) (pq_ins F (pq_pos S (S q) F n) q) b11 b12 → post (al, wo, nu, lw, nI (n + 1), a1, a2, a3, a4, a5, a6, a7, a8, a9, a10, b11, b12)) :
    ∀ (p : Nat) (b11 b12 : Nat → Int32), p ≤ n → (∀ j, j < p → b11 j = nI (F j) ∧ b12 j = nI (S (F j))) → (∀ j, p ≤ j → j < n → b11 (j + 1) = nI (F j) ∧ b12 (j + 1) = nI (S (F j))) →
      pq_pos S (S q) F n = pq_pos S (S q) F p → wX_keep_11 post (nI q) (nI (S q)) al wo nu lw (nI n) (p + 1) (nI p) a1 a2 a3 a4 a5 a6 a7 a8 a9 a10 b11 b12 := by
  intro p
  induction p with
  | zero =>
    intro b11 b12 hp lo hi e
    have e' : pq_pos S (S q) F n = 0 := e
    rw [e'] at H
    exact br_t (by decide) (pq_keep61 (by omega) (H _ _ (pq_keepX hp lo hi)))
  | succ p ih =>
    intro b11 b12 hp lo hi e
    have c0 : (nI p).toNatClampNeg = p := nI_clamp (by omega)
    have c1 : (nI (p + 1)).toNatClampNeg = p + 1 := nI_clamp (by omega)
    have v0 : vp_in (nI p) 12 := pk_in p 12 (by omega)
    have v1 : vp_in (nI (p + 1)) 12 := pk_in (p + 1) 12 (by omega)
    refine br_f (nI_nle (by omega) (by omega)) ?_
    rw [nI_pred, c0]
    refine ⟨v0, pk_le (S q) (S (F p)) (fun z => ?_) (fun z => ⟨v0, v1, ?_⟩) rfl (lo p (by omega)).2 hs (hS p (by omega))⟩
    · rw [pq_posN (by omega)] at e
      rw [e] at H
      exact pq_keep61 (by omega) (H _ _ (pq_keepX hp lo hi))
    · rw [c1]
      refine nm_e ⟨v0, v1, nm_e (nm_r (pk_m1 p) (ih _ _ (by omega) (fun j hj => ?_) (fun j h1 h2 => ?_) ?_))⟩
      · rw [pk_un (by omega), pk_un (by omega)]
        exact lo j (by omega)
      · by_cases d : j = p
        · rw [d, pk_us, pk_us]
          exact lo p (by omega)
        · rw [pk_un (by omega), pk_un (by omega)]
          exact hi j (by omega) h2
      · rw [e, pq_posT z]
theorem pq_keep {F : Nat → Nat} {q n : Nat} (hq : q < 12) (hC : ∀ q, q < 12 → pq_C a3 a4 a5 q) (h9 : ∀ t, t < 24 → vp_in (a9 t) 17) (hn : n < 12) (hF : ∀ j, j < n → F j < 12) (R : pq_Rep (pq_sc a3 a4 a5 a9) n F a11 a12)
    (H : ∀ b11 b12, pq_Rep (pq_sc a3 a4 a5 a9) (n + 1) (pq_ins F (pq_pos (pq_sc a3 a4 a5 a9) (pq_sc a3 a4 a5 a9 q) F n) q) b11 b12 → post (al, wo, nu, lw, nI (n + 1), a1, a2, a3, a4, a5, a6, a7, a8, a9, a10, b11, b12)) : wpX_keep post (al, wo, nu, lw, nI n, a1, a2, a3, a4, a5, a6, a7, a8, a9, a10, a11, a12) (nI q) := by
  unfold wpX_keep
  refine pq_scoreOf hq (hC q hq) h9 ⟨n + 1, ?_⟩
  have b : ∀ k, k < 12 → pq_sc a3 a4 a5 a9 k < 2 ^ 31 := fun k hk => by
    have := pq_scB (hC k hk) h9
    omega
  exact pq_keep11 hn (b q hq) (fun j hj => b _ (hF j hj)) H n a11 a12 (Nat.le_refl _) R (fun j h1 h2 => absurd h2 (by omega)) rfl
theorem pq_perc44 {cd : Int32} {M : Nat → Prop} (hC : ∀ q, q < 12 → pq_C a3 a4 a5 q) (h9 : ∀ t, t < 24 → vp_in (a9 t) 17) (hM : ∀ q, q < 12 → (M q ↔ pq_bt cd q = true ∧ pq_ck nu a2 a3 a4 a5 a6 a9 a10 q))
    (H : ∀ b11 b12, pq_Rep (pq_sc a3 a4 a5 a9) (pq_fd M (pq_sc a3 a4 a5 a9) 12).1 (pq_fd M (pq_sc a3 a4 a5 a9) 12).2 b11 b12 → post (al, wo, nu, lw, nI (pq_fd M (pq_sc a3 a4 a5 a9) 12).1, a1, a2, a3, a4, a5, a6, a7, a8, a9, a10, b11, b12)) :
    ∃ n, wX_percolate_44 post cd n 0 al wo nu lw 0 a1 a2 a3 a4 a5 a6 a7 a8 a9 a10 a11 a12 := by
  refine pk_loop (σ := Int32 × (Nat → Int32) × (Nat → Int32)) (fun n q s => wX_percolate_44 post cd n (nI q) al wo nu lw s.1 a1 a2 a3 a4 a5 a6 a7 a8 a9 a10 s.2.1 s.2.2) (fun q s => s.1 = nI (pq_fd M (pq_sc a3 a4 a5 a9) q).1 ∧ pq_Rep (pq_sc a3 a4 a5 a9) (pq_fd M (pq_sc a3 a4 a5 a9) q).1 (pq_fd M (pq_sc a3 a4 a5 a9) q).2 s.2.1 s.2.2) 12 0 (0, a11, a12) (by omega) ⟨rfl, fun j hj => absurd hj (Nat.not_lt_zero j)⟩ ?_ ?_
  · intro n s I
    obtain ⟨f, b11, b12⟩ := s
    obtain ⟨e, R⟩ := I
    have e' : f = nI (pq_fd M (pq_sc a3 a4 a5 a9) 12).1 := e
    subst e'
    exact pk_le 12 12 (fun _ => H b11 b12 R) (fun z => absurd z (by omega))
  · intro n j s hj I hw
    obtain ⟨f, b11, b12⟩ := s
    obtain ⟨e, R⟩ := I
    have e' : f = nI (pq_fd M (pq_sc a3 a4 a5 a9) j).1 := e
    subst e'
    have R' : pq_Rep (pq_sc a3 a4 a5 a9) (pq_fd M (pq_sc a3 a4 a5 a9) j).1 (pq_fd M (pq_sc a3 a4 a5 a9) j).2 b11 b12 := R
    obtain ⟨l1, l2, _, _⟩ := pq_Lfd M (pq_sc a3 a4 a5 a9) j
    have no : ¬ M j → wX_percolate_44 post cd n (nI (j + 1)) al wo nu lw (nI (pq_fd M (pq_sc a3 a4 a5 a9) j).1) a1 a2 a3 a4 a5 a6 a7 a8 a9 a10 b11 b12 := by
      intro hm
      exact hw (nI (pq_fd M (pq_sc a3 a4 a5 a9) j).1, b11, b12) (by rw [pq_fdN hm]; exact ⟨rfl, R'⟩)
    refine pk_le 12 j (fun z => absurd z (by omega)) (fun _ => br_c (fun z => ?_) (fun z => nm_r (nI_1 j) (no (fun m => z ((pq_tst cd j (by omega)).mpr ((hM j hj).mp m).1)))))
    refine pq_check hj (hC j hj) (fun ck => br_f (by decide) ?_) (fun nk => br_t rfl (nm_r (nI_1 j) (no (fun m => nk ((hM j hj).mp m).2))))
    have m : M j := (hM j hj).mpr ⟨(pq_tst cd j (by omega)).mp z, ck⟩
    refine pq_keep hj hC h9 (by omega) (fun i hi => Nat.lt_trans (l2 i hi).1 hj) R' (fun c11 c12 Rc => nm_r (nI_1 j) ?_)
    exact hw (nI ((pq_fd M (pq_sc a3 a4 a5 a9) j).1 + 1), c11, c12) (by rw [pq_fdT m]; exact ⟨rfl, Rc⟩)
/-- percolate: the list of those that match -/
theorem pq_perc (hC : ∀ q, q < 12 → pq_C a3 a4 a5 q) (h9 : ∀ t, t < 24 → vp_in (a9 t) 17)
    (hF : ∀ q, q < 12 → pq_ck nu a2 a3 a4 a5 a6 a9 a10 q → ((pq_bt al q = true ∨ ∃ t, t < 24 ∧ ¬ a9 t ≤ 0 ∧ pq_bt (a7 t) q = true) ↔ ¬ a1 q = 0))
    (H : ∀ b11 b12, pq_Rep (pq_sc a3 a4 a5 a9) (pq_fd (pq_ma nu a1 a2 a3 a4 a5 a6 a9 a10) (pq_sc a3 a4 a5 a9) 12).1 (pq_fd (pq_ma nu a1 a2 a3 a4 a5 a6 a9 a10) (pq_sc a3 a4 a5 a9) 12).2 b11 b12 → post (al, wo, nu, lw, nI (pq_fd (pq_ma nu a1 a2 a3 a4 a5 a6 a9 a10) (pq_sc a3 a4 a5 a9) 12).1, a1, a2, a3, a4, a5, a6, a7, a8, a9, a10, b11, b12)) :
    wpX_percolate post (al, wo, nu, lw, fo, a1, a2, a3, a4, a5, a6, a7, a8, a9, a10, a11, a12) := by
  unfold wpX_percolate
  refine pk_loop (fun n t s => wX_percolate_7 post al wo nu lw fo a1 a2 a3 a4 a5 a6 a7 a8 a9 a10 a11 a12 n s (nI t)) (fun t s => ∀ i, i < 32 → (pq_bt s i = true ↔ pq_bt al i = true ∨ ∃ t', t' < t ∧ ¬ a9 t' ≤ 0 ∧ pq_bt (a7 t') i = true)) 24 0 al (by omega) (fun i hi => ?_) ?_ ?_
  · exact ⟨fun z => Or.inl z, fun z => z.elim id (fun ⟨t, ht, _⟩ => absurd ht (Nat.not_lt_zero t))⟩
  · intro n s I
    refine pk_le 24 24 (fun _ => pq_perc44 hC h9 (fun q hq => ?_) H) (fun z => absurd z (by omega))
    constructor
    · intro m
      exact ⟨(I q (by omega)).mpr ((hF q hq m.2).mpr m.1), m.2⟩
    · intro m
      exact ⟨(hF q hq m.2).mp ((I q (by omega)).mp m.1), m.2⟩
  · intro n t s ht I hw
    have c : (nI t).toNatClampNeg = t := nI_clamp (by omega)
    refine pk_le 24 t (fun z => absurd z (by omega)) (fun _ => ⟨pk_in t 24 ht, ?_⟩)
    rw [c]
    refine br_c (fun z => nm_r (nI_1 t) (hw _ (fun i hi => ?_))) (fun z => ⟨pk_in t 24 ht, nm_e (nm_r (nI_1 t) (hw _ (fun i hi => ?_)))⟩)
    · rw [I i hi]
      constructor
      · rintro (a | ⟨t', h1, h2⟩)
        · exact Or.inl a
        · exact Or.inr ⟨t', by omega, h2⟩
      · rintro (a | ⟨t', h1, h2, h3⟩)
        · exact Or.inl a
        · by_cases e : t' = t
          · rw [e] at h2
            exact absurd z h2
          · exact Or.inr ⟨t', by omega, h2, h3⟩
    · rw [pq_or, Bool.or_eq_true, I i hi]
      constructor
      · rintro ((a | ⟨t', h1, h2⟩) | a)
        · exact Or.inl a
        · exact Or.inr ⟨t', by omega, h2⟩
        · exact Or.inr ⟨t, by omega, z, a⟩
      · rintro (a | ⟨t', h1, h2, h3⟩)
        · exact Or.inl (Or.inl a)
        · by_cases e : t' = t
          · rw [e] at h3
            exact Or.inr h3
          · exact Or.inl (Or.inr ⟨t', by omega, h2, h3⟩)
end
end
section
/-! matches, match, score, listed -/
/-- what percolate needs: clauses in form, counts small, the file right for those that check -/
def pq_OK (al nu : Int32) (a1 a2 a3 a4 a5 a6 a7 a9 a10 : Nat → Int32) : Prop :=
  (∀ q, q < 12 → pq_C a3 a4 a5 q) ∧ (∀ t, t < 24 → vp_in (a9 t) 17) ∧
  (∀ q, q < 12 → pq_ck nu a2 a3 a4 a5 a6 a9 a10 q → ((pq_bt al q = true ∨ ∃ t, t < 24 ∧ ¬ a9 t ≤ 0 ∧ pq_bt (a7 t) q = true) ↔ ¬ a1 q = 0))
/-- how many are found, and which -/
noncomputable def pq_N (nu : Int32) (a1 a2 a3 a4 a5 a6 a9 a10 : Nat → Int32) : Nat := (pq_fd (pq_ma nu a1 a2 a3 a4 a5 a6 a9 a10) (pq_sc a3 a4 a5 a9) 12).1
noncomputable def pq_Fq (nu : Int32) (a1 a2 a3 a4 a5 a6 a9 a10 : Nat → Int32) : Nat → Nat := (pq_fd (pq_ma nu a1 a2 a3 a4 a5 a6 a9 a10) (pq_sc a3 a4 a5 a9) 12).2
theorem pq_NL (nu : Int32) (a1 a2 a3 a4 a5 a6 a9 a10 : Nat → Int32) : pq_L (pq_ma nu a1 a2 a3 a4 a5 a6 a9 a10) (pq_sc a3 a4 a5 a9) 12 (pq_N nu a1 a2 a3 a4 a5 a6 a9 a10, pq_Fq nu a1 a2 a3 a4 a5 a6 a9 a10) := pq_Lfd _ _ 12
section
variable {al wo nu lw fo : Int32} {a1 a2 a3 a4 a5 a6 a7 a8 a9 a10 a11 a12 : Nat → Int32} {post : Int32 → St1 → Prop}
theorem pq_N12 : pq_N nu a1 a2 a3 a4 a5 a6 a9 a10 ≤ 12 := (pq_NL nu a1 a2 a3 a4 a5 a6 a9 a10).1
theorem pq_matches (ok : pq_OK al nu a1 a2 a3 a4 a5 a6 a7 a9 a10) (H : ∀ f b11 b12, post (nI (pq_N nu a1 a2 a3 a4 a5 a6 a9 a10)) (al, wo, nu, lw, f, a1, a2, a3, a4, a5, a6, a7, a8, a9, a10, b11, b12)) : wpX_matches post (al, wo, nu, lw, fo, a1, a2, a3, a4, a5, a6, a7, a8, a9, a10, a11, a12) := by
  unfold wpX_matches
  exact pq_perc ok.1 ok.2.1 ok.2.2 (fun b11 b12 R => H _ b11 b12)
theorem pq_match {i : Nat} (ok : pq_OK al nu a1 a2 a3 a4 a5 a6 a7 a9 a10) (hi : i < pq_N nu a1 a2 a3 a4 a5 a6 a9 a10) (H : ∀ f b11 b12, post (nI (pq_Fq nu a1 a2 a3 a4 a5 a6 a9 a10 i)) (al, wo, nu, lw, f, a1, a2, a3, a4, a5, a6, a7, a8, a9, a10, b11, b12)) : wpX_match post (al, wo, nu, lw, fo, a1, a2, a3, a4, a5, a6, a7, a8, a9, a10, a11, a12) (nI i) := by
  have h12 : pq_N nu a1 a2 a3 a4 a5 a6 a9 a10 ≤ 12 := pq_N12
  unfold wpX_match
  refine pq_perc ok.1 ok.2.1 ok.2.2 (fun b11 b12 R => br_f (nI_pos (by omega)) (pk_lt i (pq_N nu a1 a2 a3 a4 a5 a6 a9 a10) (fun _ => ⟨pk_in i 12 (by omega), ?_⟩) (fun z => absurd z (by omega))))
  have e : b11 (nI i).toNatClampNeg = nI (pq_Fq nu a1 a2 a3 a4 a5 a6 a9 a10 i) := by
    rw [nI_clamp (by omega)]
    exact (R i hi).1
  rw [e]
  exact H _ b11 b12
theorem pq_matchN (ok : pq_OK al nu a1 a2 a3 a4 a5 a6 a7 a9 a10) (H : ∀ f b11 b12, post (-5) (al, wo, nu, lw, f, a1, a2, a3, a4, a5, a6, a7, a8, a9, a10, b11, b12)) : wpX_match post (al, wo, nu, lw, fo, a1, a2, a3, a4, a5, a6, a7, a8, a9, a10, a11, a12) (nI (pq_N nu a1 a2 a3 a4 a5 a6 a9 a10)) := by
  have h12 : pq_N nu a1 a2 a3 a4 a5 a6 a9 a10 ≤ 12 := pq_N12
  unfold wpX_match
  exact pq_perc ok.1 ok.2.1 ok.2.2 (fun b11 b12 R => br_f (nI_pos (by omega)) (pk_lt (pq_N nu a1 a2 a3 a4 a5 a6 a9 a10) (pq_N nu a1 a2 a3 a4 a5 a6 a9 a10) (fun z => absurd z (by omega)) (fun _ => H _ b11 b12)))
theorem pq_score {i : Nat} (ok : pq_OK al nu a1 a2 a3 a4 a5 a6 a7 a9 a10) (hi : i < pq_N nu a1 a2 a3 a4 a5 a6 a9 a10) (H : ∀ f b11 b12, post (nI (pq_sc a3 a4 a5 a9 (pq_Fq nu a1 a2 a3 a4 a5 a6 a9 a10 i))) (al, wo, nu, lw, f, a1, a2, a3, a4, a5, a6, a7, a8, a9, a10, b11, b12)) : wpX_score post (al, wo, nu, lw, fo, a1, a2, a3, a4, a5, a6, a7, a8, a9, a10, a11, a12) (nI i) := by
  have h12 : pq_N nu a1 a2 a3 a4 a5 a6 a9 a10 ≤ 12 := pq_N12
  unfold wpX_score
  refine pq_perc ok.1 ok.2.1 ok.2.2 (fun b11 b12 R => br_f (nI_pos (by omega)) (pk_lt i (pq_N nu a1 a2 a3 a4 a5 a6 a9 a10) (fun _ => ⟨pk_in i 12 (by omega), ?_⟩) (fun z => absurd z (by omega))))
  have e : b12 (nI i).toNatClampNeg = nI (pq_sc a3 a4 a5 a9 (pq_Fq nu a1 a2 a3 a4 a5 a6 a9 a10 i)) := by
    rw [nI_clamp (by omega)]
    exact (R i hi).2
  rw [e]
  exact H _ b11 b12
theorem pq_scoreN (ok : pq_OK al nu a1 a2 a3 a4 a5 a6 a7 a9 a10) (H : ∀ f b11 b12, post 0 (al, wo, nu, lw, f, a1, a2, a3, a4, a5, a6, a7, a8, a9, a10, b11, b12)) : wpX_score post (al, wo, nu, lw, fo, a1, a2, a3, a4, a5, a6, a7, a8, a9, a10, a11, a12) (nI (pq_N nu a1 a2 a3 a4 a5 a6 a9 a10)) := by
  have h12 : pq_N nu a1 a2 a3 a4 a5 a6 a9 a10 ≤ 12 := pq_N12
  unfold wpX_score
  exact pq_perc ok.1 ok.2.1 ok.2.2 (fun b11 b12 R => br_f (nI_pos (by omega)) (pk_lt (pq_N nu a1 a2 a3 a4 a5 a6 a9 a10) (pq_N nu a1 a2 a3 a4 a5 a6 a9 a10) (fun z => absurd z (by omega)) (fun _ => H _ b11 b12)))
theorem pq_l111 {x1 : Int32} (ok : pq_OK al nu a1 a2 a3 a4 a5 a6 a7 a9 a10) (hx : pq_B (pq_ma nu a1 a2 a3 a4 a5 a6 a9 a10) x1) (H : ∀ f b11 b12, post 1 (al, wo, nu, lw, f, a1, a2, a3, a4, a5, a6, a7, a8, a9, a10, b11, b12)) : wL_listed_111 post x1 (nI (pq_N nu a1 a2 a3 a4 a5 a6 a9 a10)) al wo nu lw fo a1 a2 a3 a4 a5 a6 a7 a8 a9 a10 a11 a12 := by
  have h12 : pq_N nu a1 a2 a3 a4 a5 a6 a9 a10 ≤ 12 := pq_N12
  unfold wL_listed_111
  refine pq_matching ok.1 (fun r hr => pk_lt 12 (pq_N nu a1 a2 a3 a4 a5 a6 a9 a10) (fun z => absurd z (by omega)) (fun _ => br_t ?_ ?_))
  · exact pq_ext (fun i hi => pq_beq ((hx i hi).trans (hr i hi).symm))
  · exact pq_matchN ok (fun f b11 b12 => br_t rfl (pq_scoreN ok (fun f b11 b12 => br_t rfl (H f b11 b12))))
theorem pq_l80 {J : Int32 → Int32 → Int32 → Int32 → Int32 → Int32 → Int32 → Int32 → Int32 → (Nat → Int32) → (Nat → Int32) → (Nat → Int32) → (Nat → Int32) → (Nat → Int32) → (Nat → Int32) → (Nat → Int32) → (Nat → Int32) → (Nat → Int32) → (Nat → Int32) → (Nat → Int32) → (Nat → Int32) → Prop} {x1 x2 x7 : Int32} {q i : Nat} (hq : q < 12) (h : pq_bt x1 q = false)
    (H : J (x1 ||| ((1 : Int32) <<< (nI q &&& 31))) (nI q) x7 (nI (i + 1)) al wo nu lw fo a1 a2 a3 a4 a5 a6 a7 a8 a9 a10 a11 a12) : wL_listed_80 post J x1 x2 (nI i) (nI q) x7 al wo nu lw fo a1 a2 a3 a4 a5 a6 a7 a8 a9 a10 a11 a12 :=
  br_t ((pq_tst0 x1 q (by omega)).mpr h) (nm_e (nm_r (nI_1 i) H))
theorem pq_l17 (ok : pq_OK al nu a1 a2 a3 a4 a5 a6 a7 a9 a10) (H : ∀ f b11 b12, post 1 (al, wo, nu, lw, f, a1, a2, a3, a4, a5, a6, a7, a8, a9, a10, b11, b12)) : ∃ n, wL_listed_17 post (nI (pq_N nu a1 a2 a3 a4 a5 a6 a9 a10)) n 0 (-1) 1000 0 al wo nu lw fo a1 a2 a3 a4 a5 a6 a7 a8 a9 a10 a11 a12 := by
  obtain ⟨l1, l2, l3, l4⟩ := pq_NL nu a1 a2 a3 a4 a5 a6 a9 a10
  have l1 : pq_N nu a1 a2 a3 a4 a5 a6 a9 a10 ≤ 12 := l1
  have l2 : ∀ j, j < pq_N nu a1 a2 a3 a4 a5 a6 a9 a10 → pq_Fq nu a1 a2 a3 a4 a5 a6 a9 a10 j < 12 ∧ pq_ma nu a1 a2 a3 a4 a5 a6 a9 a10 (pq_Fq nu a1 a2 a3 a4 a5 a6 a9 a10 j) := l2
  have l3 : ∀ k, k < 12 → pq_ma nu a1 a2 a3 a4 a5 a6 a9 a10 k → ∃ j, j < pq_N nu a1 a2 a3 a4 a5 a6 a9 a10 ∧ pq_Fq nu a1 a2 a3 a4 a5 a6 a9 a10 j = k := l3
  have l4 : ∀ i j, i < j → j < pq_N nu a1 a2 a3 a4 a5 a6 a9 a10 → pq_lt (pq_sc a3 a4 a5 a9) (pq_Fq nu a1 a2 a3 a4 a5 a6 a9 a10 i) (pq_Fq nu a1 a2 a3 a4 a5 a6 a9 a10 j) := l4
  have l5 : ∀ j, j < pq_N nu a1 a2 a3 a4 a5 a6 a9 a10 → pq_sc a3 a4 a5 a9 (pq_Fq nu a1 a2 a3 a4 a5 a6 a9 a10 j) ≤ 96 := fun j hj => pq_scB (ok.1 _ (l2 j hj).1) ok.2.1
  refine pk_loop (σ := Int32 × Int32 × Int32 × Int32 × (Nat → Int32) × (Nat → Int32)) (fun n i s => wL_listed_17 post (nI (pq_N nu a1 a2 a3 a4 a5 a6 a9 a10)) n s.1 s.2.1 s.2.2.1 (nI i) al wo nu lw s.2.2.2.1 a1 a2 a3 a4 a5 a6 a7 a8 a9 a10 s.2.2.2.2.1 s.2.2.2.2.2)
    (fun i s => (∀ b, b < 32 → (pq_bt s.1 b = true ↔ ∃ j, j < i ∧ pq_Fq nu a1 a2 a3 a4 a5 a6 a9 a10 j = b)) ∧ ∃ c, s.2.2.1 = nI c ∧ c < 2 ^ 31 ∧ (i < pq_N nu a1 a2 a3 a4 a5 a6 a9 a10 → pq_sc a3 a4 a5 a9 (pq_Fq nu a1 a2 a3 a4 a5 a6 a9 a10 i) < c ∨ (pq_sc a3 a4 a5 a9 (pq_Fq nu a1 a2 a3 a4 a5 a6 a9 a10 i) = c ∧ s.2.1 ≤ nI (pq_Fq nu a1 a2 a3 a4 a5 a6 a9 a10 i))))
    (pq_N nu a1 a2 a3 a4 a5 a6 a9 a10) 0 (0, -1, 1000, fo, a11, a12) (Nat.zero_le _) ?_ ?_ ?_
  · refine ⟨fun b hb => ?_, 1000, rfl, by decide, fun h => Or.inl ?_⟩
    · show pq_bt 0 b = true ↔ _
      rw [pq_0]
      exact ⟨fun z => absurd z (by decide), fun ⟨j, hj, _⟩ => absurd hj (Nat.not_lt_zero j)⟩
    · have := l5 0 h
      omega
  · intro n s I
    obtain ⟨x1, x3, x4, f, b11, b12⟩ := s
    obtain ⟨I1, I2⟩ := I
    have I1 : ∀ b, b < 32 → (pq_bt x1 b = true ↔ ∃ j, j < pq_N nu a1 a2 a3 a4 a5 a6 a9 a10 ∧ pq_Fq nu a1 a2 a3 a4 a5 a6 a9 a10 j = b) := I1
    have hx : pq_B (pq_ma nu a1 a2 a3 a4 a5 a6 a9 a10) x1 := by
      intro b hb
      rw [I1 b hb]
      constructor
      · rintro ⟨j, hj, ej⟩
        rw [← ej]
        exact l2 j hj
      · rintro ⟨h1, h2⟩
        exact l3 b h1 h2
    exact pk_le 12 (pq_N nu a1 a2 a3 a4 a5 a6 a9 a10) (fun _ => pq_l111 ok hx H) (fun _ => pk_le (pq_N nu a1 a2 a3 a4 a5 a6 a9 a10) (pq_N nu a1 a2 a3 a4 a5 a6 a9 a10) (fun _ => pq_l111 ok hx H) (fun z => absurd z (by omega)))
  · intro n i s hi I hw
    obtain ⟨x1, x3, x4, f, b11, b12⟩ := s
    obtain ⟨I1, c, ec, hc, I2⟩ := I
    have I1 : ∀ b, b < 32 → (pq_bt x1 b = true ↔ ∃ j, j < i ∧ pq_Fq nu a1 a2 a3 a4 a5 a6 a9 a10 j = b) := I1
    have ec : x4 = nI c := ec
    have I3 : pq_sc a3 a4 a5 a9 (pq_Fq nu a1 a2 a3 a4 a5 a6 a9 a10 i) < c ∨ (pq_sc a3 a4 a5 a9 (pq_Fq nu a1 a2 a3 a4 a5 a6 a9 a10 i) = c ∧ x3 ≤ nI (pq_Fq nu a1 a2 a3 a4 a5 a6 a9 a10 i)) := I2 hi
    subst ec
    have li := l2 i hi
    have si := l5 i hi
    have fr : pq_bt x1 (pq_Fq nu a1 a2 a3 a4 a5 a6 a9 a10 i) = false := by
      refine pq_nf (fun z => ?_)
      obtain ⟨j, hj, ej⟩ := (I1 _ (by omega)).mp z
      rcases l4 j i hj hi with d | d
      · rw [ej] at d; omega
      · rw [ej] at d; omega
    have go : ∀ f b11 b12, wL_listed_80 post (wL_listed_17 post (nI (pq_N nu a1 a2 a3 a4 a5 a6 a9 a10)) n) x1 (nI (pq_N nu a1 a2 a3 a4 a5 a6 a9 a10)) (nI i) (nI (pq_Fq nu a1 a2 a3 a4 a5 a6 a9 a10 i)) (nI (pq_sc a3 a4 a5 a9 (pq_Fq nu a1 a2 a3 a4 a5 a6 a9 a10 i))) al wo nu lw f a1 a2 a3 a4 a5 a6 a7 a8 a9 a10 b11 b12 := by
      intro f b11 b12
      refine pq_l80 li.1 fr ?_
      refine hw (x1 ||| ((1 : Int32) <<< (nI (pq_Fq nu a1 a2 a3 a4 a5 a6 a9 a10 i) &&& 31)), nI (pq_Fq nu a1 a2 a3 a4 a5 a6 a9 a10 i), nI (pq_sc a3 a4 a5 a9 (pq_Fq nu a1 a2 a3 a4 a5 a6 a9 a10 i)), f, b11, b12) ⟨fun b hb => ?_, _, rfl, by omega, fun h => ?_⟩
      · show pq_bt (x1 ||| ((1 : Int32) <<< (nI (pq_Fq nu a1 a2 a3 a4 a5 a6 a9 a10 i) &&& 31))) b = true ↔ _
        rw [pq_set x1 _ (by omega) hb, I1 b hb]
        constructor
        · rintro (⟨j, hj, ej⟩ | e)
          · exact ⟨j, by omega, ej⟩
          · exact ⟨i, by omega, e.symm⟩
        · rintro ⟨j, hj, ej⟩
          by_cases d : j = i
          · rw [d] at ej
            exact Or.inr ej.symm
          · exact Or.inl ⟨j, by omega, ej⟩
      · rcases l4 i (i + 1) (by omega) h with d | d
        · exact Or.inl d
        · exact Or.inr ⟨d.1.symm, nI_le (Nat.le_of_lt d.2) (Nat.lt_trans (l2 _ h).1 (by omega))⟩
    refine pk_le 12 i (fun z => absurd z (by omega)) (fun _ => pk_le (pq_N nu a1 a2 a3 a4 a5 a6 a9 a10) i (fun z => absurd z (by omega)) (fun _ => pq_match ok hi (fun f b11 b12 => pq_score ok hi (fun f b11 b12 => ?_))))
    refine br_f (nI_pos (by omega)) (pk_lt 11 (pq_Fq nu a1 a2 a3 a4 a5 a6 a9 a10 i) (fun z => absurd z (by omega)) (fun _ => pk_lt c (pq_sc a3 a4 a5 a9 (pq_Fq nu a1 a2 a3 a4 a5 a6 a9 a10 i)) (fun z => absurd z (by omega)) (fun _ => pk_eq (pq_sc a3 a4 a5 a9 (pq_Fq nu a1 a2 a3 a4 a5 a6 a9 a10 i)) c (fun e => br_t ?_ (go f b11 b12)) (fun e => go f b11 b12))))
    rcases I3 with d | d
    · omega
    · exact d.2
/-- listed answers true, and changes what was found alone -/
theorem pq_listed (ok : pq_OK al nu a1 a2 a3 a4 a5 a6 a7 a9 a10) (H : ∀ f b11 b12, post 1 (al, wo, nu, lw, f, a1, a2, a3, a4, a5, a6, a7, a8, a9, a10, b11, b12)) : wpL_listed post (al, wo, nu, lw, fo, a1, a2, a3, a4, a5, a6, a7, a8, a9, a10, a11, a12) := by
  unfold wpL_listed
  exact pq_matches ok (fun f b11 b12 => pq_l17 ok H)
end
end
section
/-! sure, count, unfile, rarest, file -/
section
variable {al wo nu lw fo : Int32} {a1 a2 a3 a4 a5 a6 a7 a8 a9 a10 a11 a12 : Nat → Int32}
theorem pq_sure {post : Int32 → Prop} {i : Nat} (hi : i < 72) (h1 : pq_su a4 i → post 1) (h0 : ¬ pq_su a4 i → post 0) : wpX_sure post (al, wo, nu, lw, fo, a1, a2, a3, a4, a5, a6, a7, a8, a9, a10, a11, a12) (nI i) := by
  have c : (nI i).toNatClampNeg = i := nI_clamp (by omega)
  have v : vp_in (nI i) 72 := pk_in i 72 hi
  refine ⟨v, ?_⟩
  rw [c]
  exact br_c (fun e => h1 (Or.inl e)) (fun n0 => ⟨v, br_c (fun e => h1 (Or.inr e)) (fun n3 => h0 (fun z => z.elim n0 n3))⟩)
theorem pq_su5 {i : Nat} (wf : pq_wf a4 a5 i) (h : pq_su a4 i) : vp_in (a5 i) 24 := by
  rcases h with e | e
  · exact pq_wf' wf e (by decide)
  · exact pq_wf' wf e (by decide)
theorem pq_count {post : St1 → Prop} {q : Nat} {d : Int32} (hq : q < 12) (C : pq_C a3 a4 a5 q) (H : ∀ b8, post (al, wo, nu, lw, fo, a1, a2, a3, a4, a5, a6, a7, b8, a9, a10, a11, a12)) : wpX_count post (al, wo, nu, lw, fo, a1, a2, a3, a4, a5, a6, a7, a8, a9, a10, a11, a12) (nI q) d := by
  have v : vp_in (nI q) 12 := pk_in q 12 hq
  obtain ⟨C1, C2⟩ := C
  obtain ⟨ek, hk⟩ := pq_vn C1 (by decide)
  have en := pq_en hq C1
  refine nm_r (pk_mul q 6) ?_
  refine pk_loop (fun n j s => wX_count_5 post (nI q) d al wo nu lw fo n (nI (q * 6 + j)) a1 a2 a3 a4 a5 a6 a7 s a9 a10 a11 a12) (fun _ _ => True) (a3 q).toNatClampNeg 0 a8 (Nat.zero_le _) trivial ?_ ?_
  · intro n s I
    exact ⟨v, pk_le (q * 6 + (a3 q).toNatClampNeg) (q * 6 + (a3 q).toNatClampNeg) (fun _ => H s) (fun z => absurd z (Nat.lt_irrefl _)) en rfl (by omega) (by omega)⟩
  · intro n j s hj I hw
    have vi : vp_in (nI (q * 6 + j)) 72 := pk_in (q * 6 + j) 72 (by omega)
    have ci : (nI (q * 6 + j)).toNatClampNeg = q * 6 + j := nI_clamp (by omega)
    refine ⟨v, pk_le (q * 6 + (a3 q).toNatClampNeg) (q * 6 + j) (fun z => absurd z (by omega)) (fun _ => pq_sure (by omega) (fun su => br_f (by decide) ⟨vi, ?_⟩) (fun _ => br_t rfl (nm_r (nI_1 _) (hw s trivial)))) en rfl (by omega) (by omega)⟩
    rw [ci]
    exact ⟨pq_su5 (C2 j hj) su, pq_su5 (C2 j hj) su, nm_e (nm_r (nI_1 _) (hw _ trivial))⟩
theorem pq_unfile {post : St1 → Prop} {q : Nat} (hq : q < 12) (C : pq_C a3 a4 a5 q) (H : ∀ b7 b8, (∀ t, t < 24 → b7 t = a7 t &&& (((1 : Int32) <<< (nI q &&& 31)) ^^^ (-1))) → post (al &&& (((1 : Int32) <<< (nI q &&& 31)) ^^^ (-1)), wo, nu, lw, fo, a1, a2, a3, a4, a5, a6, b7, b8, a9, a10, a11, a12)) : wpX_unfile post (al, wo, nu, lw, fo, a1, a2, a3, a4, a5, a6, a7, a8, a9, a10, a11, a12) (nI q) := by
  refine nm_e ?_
  refine pk_loop (fun n t s => wX_unfile_16 post (nI q) (al &&& (((1 : Int32) <<< (nI q &&& 31)) ^^^ (-1))) wo nu lw fo n (nI t) a1 a2 a3 a4 a5 a6 s a8 a9 a10 a11 a12) (fun t s => (∀ t', t' < t → s t' = a7 t' &&& (((1 : Int32) <<< (nI q &&& 31)) ^^^ (-1))) ∧ (∀ t', t ≤ t' → s t' = a7 t')) 24 0 a7 (by omega) ⟨fun t h => absurd h (Nat.not_lt_zero t), fun _ _ => rfl⟩ ?_ ?_
  · intro n s I
    exact pk_le 24 24 (fun _ => pq_count hq C (fun b8 => H s b8 I.1)) (fun z => absurd z (by omega))
  · intro n t s ht I hw
    have c : (nI t).toNatClampNeg = t := nI_clamp (by omega)
    have v : vp_in (nI t) 24 := pk_in t 24 ht
    refine pk_le 24 t (fun z => absurd z (by omega)) (fun _ => ⟨v, v, ?_⟩)
    rw [c]
    refine nm_e (nm_r (nI_1 t) (hw _ ⟨fun t' h => ?_, fun t' h => ?_⟩))
    · by_cases e : t' = t
      · rw [e, pk_us, I.2 t (Nat.le_refl _)]
      · rw [pk_un e]
        exact I.1 t' (by omega)
    · rw [pk_un (by omega)]
      exact I.2 t' (by omega)
theorem pq_rarest {post : Int32 → Prop} {q : Nat} (hq : q < 12) (C : pq_C a3 a4 a5 q) (h0 : (∀ j, j < (a3 q).toNatClampNeg → ¬ pq_su a4 (q * 6 + j)) → post (-1)) (h1 : ∀ j, j < (a3 q).toNatClampNeg → pq_su a4 (q * 6 + j) → post (a5 (q * 6 + j))) : wpX_rarest post (al, wo, nu, lw, fo, a1, a2, a3, a4, a5, a6, a7, a8, a9, a10, a11, a12) (nI q) := by
  have v : vp_in (nI q) 12 := pk_in q 12 hq
  obtain ⟨C1, C2⟩ := C
  obtain ⟨ek, hk⟩ := pq_vn C1 (by decide)
  have en := pq_en hq C1
  refine nm_r (pk_mul q 6) ?_
  refine pk_loop (σ := Int32) (fun n j s => wX_rarest_7 post (nI q) al wo nu lw fo a1 a2 a3 a4 a5 a6 a7 a8 a9 a10 a11 a12 n s (nI (q * 6 + j))) (fun j s => (s = -1 ∧ ∀ j', j' < j → ¬ pq_su a4 (q * 6 + j')) ∨ (∃ j', j' < j ∧ pq_su a4 (q * 6 + j') ∧ s = a5 (q * 6 + j'))) (a3 q).toNatClampNeg 0 (-1) (Nat.zero_le _) (Or.inl ⟨rfl, fun j h => absurd h (Nat.not_lt_zero j)⟩) ?_ ?_
  · intro n s I
    refine ⟨v, pk_le (q * 6 + (a3 q).toNatClampNeg) (q * 6 + (a3 q).toNatClampNeg) (fun _ => ?_) (fun z => absurd z (Nat.lt_irrefl _)) en rfl (by omega) (by omega)⟩
    rcases I with ⟨e, h⟩ | ⟨j, hj, su, e⟩
    · rw [e]
      exact h0 h
    · rw [e]
      exact h1 j hj su
  · intro n j s hj I hw
    have vi : vp_in (nI (q * 6 + j)) 72 := pk_in (q * 6 + j) 72 (by omega)
    have ci : (nI (q * 6 + j)).toNatClampNeg = q * 6 + j := nI_clamp (by omega)
    refine ⟨v, pk_le (q * 6 + (a3 q).toNatClampNeg) (q * 6 + j) (fun z => absurd z (by omega)) (fun _ => pq_sure (by omega) (fun su => br_f (by decide) ?_) (fun ns => br_t rfl (nm_r (nI_1 _) (hw s ?_)))) en rfl (by omega) (by omega)⟩
    · have new : wX_rarest_7 post (nI q) al wo nu lw fo a1 a2 a3 a4 a5 a6 a7 a8 a9 a10 a11 a12 n (a5 (q * 6 + j)) (nI (q * 6 + j + 1)) := hw _ (Or.inr ⟨j, by omega, su, rfl⟩)
      refine br_c (fun z => ⟨vi, ?_⟩) (fun z => ⟨vi, ?_⟩)
      · rw [ci]
        exact nm_e (nm_r (nI_1 _) new)
      · rw [ci]
        have old : ∃ j', j' < j ∧ pq_su a4 (q * 6 + j') ∧ s = a5 (q * 6 + j') := by
          rcases I with ⟨e, h⟩ | h
          · rw [e] at z
            exact absurd (by decide) z
          · exact h
        obtain ⟨j', hj', su', e'⟩ := old
        refine ⟨pq_su5 (C2 j hj) su, by rw [e']; exact pq_su5 (C2 j' (by omega)) su', br_c (fun _ => nm_r (nI_1 _) (hw s (Or.inr ⟨j', by omega, su', e'⟩))) (fun _ => ⟨vi, nm_e (nm_r (nI_1 _) new)⟩)⟩
    · rcases I with ⟨e, h⟩ | ⟨j', hj', su', e'⟩
      · exact Or.inl ⟨e, lt_s h ns⟩
      · exact Or.inr ⟨j', by omega, su', e'⟩
/-- only bit q of the file differs -/
def pq_fr (q : Nat) (al al' : Int32) (a7 b7 : Nat → Int32) : Prop := (∀ i, i < 32 → i ≠ q → pq_bt al' i = pq_bt al i) ∧ (∀ t, t < 24 → ∀ i, i < 32 → i ≠ q → pq_bt (b7 t) i = pq_bt (a7 t) i)
theorem pq_updBit {q t : Nat} (hq : q < 12) {s : Nat → Int32} : ∀ t', ∀ i, i < 32 → i ≠ q → pq_bt (upd s t (s t ||| ((1 : Int32) <<< (nI q &&& 31))) t') i = pq_bt (s t') i := by
  intro t' i hi hn
  by_cases e : t' = t
  · rw [e, pk_us, pq_setN _ _ (by omega) hi hn]
  · rw [pk_un e]
theorem pq_updBitQ {q t : Nat} (hq : q < 12) {s : Nat → Int32} {t' : Nat} (h : t' = t ∨ pq_bt (s t') q = true) : pq_bt (upd s t (s t ||| ((1 : Int32) <<< (nI q &&& 31))) t') q = true := by
  by_cases e : t' = t
  · rw [e, pk_us]
    exact (pq_set _ _ (by omega) (by omega)).mpr (Or.inr rfl)
  · rw [pk_un e]
    exact h.resolve_left e
theorem pq_file56 {post : St1 → Prop} {q : Nat} (hq : q < 12) (C : pq_C a3 a4 a5 q) (H : ∀ b7, (∀ t, ∀ i, i < 32 → i ≠ q → pq_bt (b7 t) i = pq_bt (a7 t) i) → (∀ j, j < (a3 q).toNatClampNeg → a4 (q * 6 + j) = 2 → pq_bt (b7 (a5 (q * 6 + j)).toNatClampNeg) q = true) → post (al, wo, nu, lw, fo, a1, a2, a3, a4, a5, a6, b7, a8, a9, a10, a11, a12)) : ∃ n, wX_file_56 post (nI q) al wo nu lw fo n (nI (q * 6)) a1 a2 a3 a4 a5 a6 a7 a8 a9 a10 a11 a12 := by
  have v : vp_in (nI q) 12 := pk_in q 12 hq
  obtain ⟨C1, C2⟩ := C
  obtain ⟨ek, hk⟩ := pq_vn C1 (by decide)
  have en := pq_en hq C1
  refine pk_loop (fun n j s => wX_file_56 post (nI q) al wo nu lw fo n (nI (q * 6 + j)) a1 a2 a3 a4 a5 a6 s a8 a9 a10 a11 a12) (fun j s => (∀ t, ∀ i, i < 32 → i ≠ q → pq_bt (s t) i = pq_bt (a7 t) i) ∧ ∀ j', j' < j → a4 (q * 6 + j') = 2 → pq_bt (s (a5 (q * 6 + j')).toNatClampNeg) q = true) (a3 q).toNatClampNeg 0 a7 (Nat.zero_le _) ⟨fun _ _ _ _ => rfl, fun j h => absurd h (Nat.not_lt_zero j)⟩ ?_ ?_
  · intro n s I
    exact ⟨v, pk_le (q * 6 + (a3 q).toNatClampNeg) (q * 6 + (a3 q).toNatClampNeg) (fun _ => H s I.1 I.2) (fun z => absurd z (Nat.lt_irrefl _)) en rfl (by omega) (by omega)⟩
  · intro n j s hj I hw
    have vi : vp_in (nI (q * 6 + j)) 72 := pk_in (q * 6 + j) 72 (by omega)
    have ci : (nI (q * 6 + j)).toNatClampNeg = q * 6 + j := nI_clamp (by omega)
    refine ⟨v, pk_le (q * 6 + (a3 q).toNatClampNeg) (q * 6 + j) (fun z => absurd z (by omega)) (fun _ => ⟨vi, ?_⟩) en rfl (by omega) (by omega)⟩
    rw [ci]
    refine br_c (fun e => ⟨vi, pq_wf' (C2 j hj) e (by decide), pq_wf' (C2 j hj) e (by decide), nm_e (nm_r (nI_1 _) (hw _ ⟨fun t i hi hn => ?_, fun j' hj' e' => ?_⟩))⟩) (fun e => nm_r (nI_1 _) (hw s ⟨I.1, fun j' hj' e' => ?_⟩))
    · rw [pq_updBit hq t i hi hn]
      exact I.1 t i hi hn
    · refine pq_updBitQ hq ?_
      by_cases d : j' = j
      · exact Or.inl (by rw [d])
      · exact Or.inr (I.2 j' (by omega) e')
    · by_cases d : j' = j
      · rw [d] at e'
        exact absurd e' e
      · exact I.2 j' (by omega) e'
theorem pq_file {post : St1 → Prop} {q : Nat} (hq : q < 12) (C : pq_C a3 a4 a5 q) (H : ∀ al' b7 b8, pq_fr q al al' a7 b7 → pq_FO al' a2 a3 a4 a5 b7 q → post (al', wo, nu, lw, fo, a1, a2, a3, a4, a5, a6, b7, b8, a9, a10, a11, a12)) : wpX_file post (al, wo, nu, lw, fo, a1, a2, a3, a4, a5, a6, a7, a8, a9, a10, a11, a12) (nI q) := by
  have c : (nI q).toNatClampNeg = q := nI_clamp (by omega)
  have v : vp_in (nI q) 12 := pk_in q 12 hq
  unfold wpX_file
  refine pq_count hq C (fun b8 => ?_)
  refine pq_rarest hq C (fun ns => br_t (by decide) ⟨v, ?_⟩) (fun j hj su => ?_)
  · rw [c]
    refine br_c (fun e => nm_e (H _ a7 b8 ⟨fun i hi hn => pq_setN _ _ (by omega) hi hn, fun _ _ _ _ _ => rfl⟩ (Or.inl ((pq_set _ _ (by omega) (by omega)).mpr (Or.inr rfl))))) (fun e => nm_r (pk_mul q 6) ?_)
    exact pq_file56 hq C (fun b7 f1 f2 => H al b7 b8 ⟨fun _ _ _ => rfl, fun t _ => f1 t⟩ (Or.inr (Or.inr ⟨e, f2⟩)))
  · have v5 := pq_su5 (C.2 j hj) su
    refine br_f (fun z => v5 (Or.inl z)) ⟨v5, v5, nm_e (H al _ b8 ⟨fun _ _ _ => rfl, fun t _ => pq_updBit hq t⟩ (Or.inr (Or.inl ⟨j, hj, su, pq_updBitQ hq (Or.inl rfl)⟩)))⟩
end
end
section
/-! add and its callers, create, remove, document, word -/
/-- what add's answer must give: q gets one clause more, and is filed anew -/
def pq_AH (post : Int32 → St1 → Prop) (q : Nat) (x a b : Int32) (al wo nu lw fo : Int32) (a1 a2 a3 a4 a5 a6 a7 a8 a9 a10 a11 a12 : Nat → Int32) : Prop :=
  (a3 q).toNatClampNeg < 6 → ∀ al' b7 b8, pq_fr q al al' a7 b7 →
    pq_FO al' a2 (upd a3 q (nI ((a3 q).toNatClampNeg + 1))) (upd a4 (q * 6 + (a3 q).toNatClampNeg) x) (upd a5 (q * 6 + (a3 q).toNatClampNeg) a) b7 q →
    post (nI ((a3 q).toNatClampNeg + 1)) (al', wo, nu, lw, fo, a1, a2, upd a3 q (nI ((a3 q).toNatClampNeg + 1)), upd a4 (q * 6 + (a3 q).toNatClampNeg) x, upd a5 (q * 6 + (a3 q).toNatClampNeg) a, upd a6 (q * 6 + (a3 q).toNatClampNeg) b, b7, b8, a9, a10, a11, a12)
theorem pq_Cadd {a3 a4 a5 : Nat → Int32} {q : Nat} {x a : Int32} (C : pq_C a3 a4 a5 q) (hk : (a3 q).toNatClampNeg < 6) (hx : ¬ x = 4 → vp_in a 24) :
    pq_C (upd a3 q (nI ((a3 q).toNatClampNeg + 1))) (upd a4 (q * 6 + (a3 q).toNatClampNeg) x) (upd a5 (q * 6 + (a3 q).toNatClampNeg) a) q := by
  unfold pq_C
  rw [pk_us, nI_clamp (by omega)]
  refine ⟨pk_in ((a3 q).toNatClampNeg + 1) 7 (by omega), fun j hj => ?_⟩
  unfold pq_wf
  by_cases e : j = (a3 q).toNatClampNeg
  · rw [e, pk_us, pk_us]
    exact hx
  · rw [pk_un (by omega), pk_un (by omega)]
    exact C.2 j (by omega)
section
variable {al wo nu lw fo : Int32} {a1 a2 a3 a4 a5 a6 a7 a8 a9 a10 a11 a12 : Nat → Int32}
theorem pq_badT {post : Int32 → Prop} {t : Nat} (ht : t < 24) (h : post 0) : wpX_badTerm post () (nI t) := br_f (nI_pos (by omega)) (pk_lt t 24 (fun _ => h) (fun z => absurd z (by omega)))
section
variable {post : Int32 → St1 → Prop}
theorem pq_add {q : Nat} {x a b : Int32} (hq : q < 12) (C : pq_C a3 a4 a5 q) (hx : ¬ x = 4 → vp_in a 24) (h0 : post (-3) (al, wo, nu, lw, fo, a1, a2, a3, a4, a5, a6, a7, a8, a9, a10, a11, a12)) (H : pq_AH post q x a b al wo nu lw fo a1 a2 a3 a4 a5 a6 a7 a8 a9 a10 a11 a12) : wpX_add post (al, wo, nu, lw, fo, a1, a2, a3, a4, a5, a6, a7, a8, a9, a10, a11, a12) (nI q) x a b := by
  have c : (nI q).toNatClampNeg = q := nI_clamp (by omega)
  have v : vp_in (nI q) 12 := pk_in q 12 hq
  obtain ⟨ek, hk⟩ := pq_vn C.1 (by decide)
  have en := pq_en hq C.1
  refine ⟨v, pk_lt (a3 q).toNatClampNeg 6 (fun z => ?_) (fun _ => h0) (by rw [c]; exact ek) rfl (by omega) (by omega)⟩
  have vk : vp_in (nI (q * 6 + (a3 q).toNatClampNeg)) 72 := pk_in (q * 6 + (a3 q).toNatClampNeg) 72 (by omega)
  have kc : (nI (q * 6 + (a3 q).toNatClampNeg)).toNatClampNeg = q * 6 + (a3 q).toNatClampNeg := nI_clamp (by omega)
  have e3 : upd a3 q (a3 q + 1) = upd a3 q (nI ((a3 q).toNatClampNeg + 1)) := by rw [← nI_1, ← ek]
  refine pq_unfile hq C (fun b7 b8 h7 => ⟨v, nm_r en ⟨vk, ?_⟩⟩)
  rw [kc, c]
  refine nm_e ⟨vk, nm_e ⟨vk, nm_e ⟨v, v, nm_r e3 (pq_file hq (pq_Cadd C z hx) (fun al' c7 c8 f o => ⟨v, ?_⟩))⟩⟩⟩
  rw [pk_us]
  refine H z al' c7 c8 ⟨fun i hi hn => (f.1 i hi hn).trans (pq_clrN al q (by omega) hi hn), fun t ht i hi hn => ?_⟩ o
  rw [f.2 t ht i hi hn, h7 t ht, pq_clrN _ q (by omega) hi hn]
theorem pq_addTerm {q t : Nat} {x : Int32} (hq : q < 12) (C : pq_C a3 a4 a5 q) (ht : t < 24) (Hn : ∀ r, r ≤ 0 → post r (al, wo, nu, lw, fo, a1, a2, a3, a4, a5, a6, a7, a8, a9, a10, a11, a12)) (Hy : ¬ a1 q = 0 → pq_AH post q x (nI t) 0 al wo nu lw fo a1 a2 a3 a4 a5 a6 a7 a8 a9 a10 a11 a12) : wpX_addTerm post (al, wo, nu, lw, fo, a1, a2, a3, a4, a5, a6, a7, a8, a9, a10, a11, a12) (nI q) x (nI t) := by
  unfold wpX_addTerm
  refine pq_noQ hq (fun e => br_f (by decide) (Hn _ (by decide))) (fun e => br_t rfl (pq_badT ht (br_t rfl ?_)))
  exact pq_add hq C (fun _ => pk_in t 24 ht) (Hn _ (by decide)) (fun k al' b7 b8 f o => Hy e k al' b7 b8 f o)
theorem pq_must {q t : Nat} (hq : q < 12) (C : pq_C a3 a4 a5 q) (ht : t < 24) (Hn : ∀ r, r ≤ 0 → post r (al, wo, nu, lw, fo, a1, a2, a3, a4, a5, a6, a7, a8, a9, a10, a11, a12)) (Hy : ¬ a1 q = 0 → pq_AH post q 0 (nI t) 0 al wo nu lw fo a1 a2 a3 a4 a5 a6 a7 a8 a9 a10 a11 a12) : wpX_must post (al, wo, nu, lw, fo, a1, a2, a3, a4, a5, a6, a7, a8, a9, a10, a11, a12) (nI q) (nI t) := by
  unfold wpX_must
  exact pq_addTerm hq C ht (fun r hr => Hn r hr) (fun e k al' b7 b8 f o => Hy e k al' b7 b8 f o)
theorem pq_nott {q t : Nat} (hq : q < 12) (C : pq_C a3 a4 a5 q) (ht : t < 24) (Hn : ∀ r, r ≤ 0 → post r (al, wo, nu, lw, fo, a1, a2, a3, a4, a5, a6, a7, a8, a9, a10, a11, a12)) (Hy : ¬ a1 q = 0 → pq_AH post q 1 (nI t) 0 al wo nu lw fo a1 a2 a3 a4 a5 a6 a7 a8 a9 a10 a11 a12) : wpX_not post (al, wo, nu, lw, fo, a1, a2, a3, a4, a5, a6, a7, a8, a9, a10, a11, a12) (nI q) (nI t) := by
  unfold wpX_not
  exact pq_addTerm hq C ht (fun r hr => Hn r hr) (fun e k al' b7 b8 f o => Hy e k al' b7 b8 f o)
theorem pq_should {q t : Nat} (hq : q < 12) (C : pq_C a3 a4 a5 q) (ht : t < 24) (Hn : ∀ r, r ≤ 0 → post r (al, wo, nu, lw, fo, a1, a2, a3, a4, a5, a6, a7, a8, a9, a10, a11, a12)) (Hy : ¬ a1 q = 0 → pq_AH post q 2 (nI t) 0 al wo nu lw fo a1 a2 a3 a4 a5 a6 a7 a8 a9 a10 a11 a12) : wpX_should post (al, wo, nu, lw, fo, a1, a2, a3, a4, a5, a6, a7, a8, a9, a10, a11, a12) (nI q) (nI t) := by
  unfold wpX_should
  exact pq_addTerm hq C ht (fun r hr => Hn r hr) (fun e k al' b7 b8 f o => Hy e k al' b7 b8 f o)
theorem pq_phrase {q t u : Nat} (hq : q < 12) (C : pq_C a3 a4 a5 q) (ht : t < 24) (hu : u < 24) (Hn : ∀ r, r ≤ 0 → post r (al, wo, nu, lw, fo, a1, a2, a3, a4, a5, a6, a7, a8, a9, a10, a11, a12)) (Hy : ¬ a1 q = 0 → pq_AH post q 3 (nI t) (nI u) al wo nu lw fo a1 a2 a3 a4 a5 a6 a7 a8 a9 a10 a11 a12) : wpX_phrase post (al, wo, nu, lw, fo, a1, a2, a3, a4, a5, a6, a7, a8, a9, a10, a11, a12) (nI q) (nI t) (nI u) := by
  unfold wpX_phrase
  refine pq_noQ hq (fun e => br_f (by decide) (Hn _ (by decide))) (fun e => br_t rfl (pq_badT ht (br_t rfl (pq_badT hu (br_t rfl ?_)))))
  exact pq_add hq C (fun _ => pk_in t 24 ht) (Hn _ (by decide)) (fun k al' b7 b8 f o => Hy e k al' b7 b8 f o)
theorem pq_range {q : Nat} {a b : Int32} (hq : q < 12) (C : pq_C a3 a4 a5 q) (Hn : ∀ r, r ≤ 0 → post r (al, wo, nu, lw, fo, a1, a2, a3, a4, a5, a6, a7, a8, a9, a10, a11, a12)) (Hy : ¬ a1 q = 0 → pq_AH post q 4 a b al wo nu lw fo a1 a2 a3 a4 a5 a6 a7 a8 a9 a10 a11 a12) : wpX_range post (al, wo, nu, lw, fo, a1, a2, a3, a4, a5, a6, a7, a8, a9, a10, a11, a12) (nI q) a b := by
  unfold wpX_range
  refine pq_noQ hq (fun e => br_f (by decide) (Hn _ (by decide))) (fun e => br_t rfl ?_)
  exact pq_add hq C (fun z => absurd rfl z) (Hn _ (by decide)) (fun k al' b7 b8 f o => Hy e k al' b7 b8 f o)
theorem pq_clause {kd q t u : Nat} (hq : q < 12) (C : pq_C a3 a4 a5 q) (hk : kd < 8) (ht : t < 4) (hu : u < 4) (Hn : ∀ r, r ≤ 0 → post r (al, wo, nu, lw, fo, a1, a2, a3, a4, a5, a6, a7, a8, a9, a10, a11, a12))
    (Hy : ∀ x a b, ¬ x = 2 → (¬ x = 4 → vp_in a 24) → (x = 1 → kd = 4) → ¬ a1 q = 0 → pq_AH post q x a b al wo nu lw fo a1 a2 a3 a4 a5 a6 a7 a8 a9 a10 a11 a12) : wpL_clause post (al, wo, nu, lw, fo, a1, a2, a3, a4, a5, a6, a7, a8, a9, a10, a11, a12) (nI kd) (nI q) (nI t) (nI u) := by
  have vt : vp_in (nI t) 24 := pk_in t 24 (by omega)
  unfold wpL_clause
  refine pk_lt 3 kd (fun _ => pk_eq kd 4 (fun e4 => ?_) (fun _ => pk_lt 6 kd (fun _ => ?_) (fun _ => ?_))) (fun _ => ?_)
  · exact pq_nott hq C (by omega) (fun r hr => Hn r hr) (fun e k al' b7 b8 f o => Hy _ _ _ (by decide) (fun _ => vt) (fun _ => e4) e k al' b7 b8 f o)
  · exact pq_range hq C (fun r hr => Hn r hr) (fun e k al' b7 b8 f o => Hy _ _ _ (by decide) (fun z => absurd rfl z) (fun z => absurd z (by decide)) e k al' b7 b8 f o)
  · exact pq_phrase hq C (by omega) (by omega) (fun r hr => Hn r hr) (fun e k al' b7 b8 f o => Hy _ _ _ (by decide) (fun _ => vt) (fun z => absurd z (by decide)) e k al' b7 b8 f o)
  · exact pq_must hq C (by omega) (fun r hr => Hn r hr) (fun e k al' b7 b8 f o => Hy _ _ _ (by decide) (fun _ => vt) (fun z => absurd z (by decide)) e k al' b7 b8 f o)
theorem pq_create {l : Nat} (hl : l ≤ 6) (H0 : post (-3) (al, wo, nu, lw, fo, a1, a2, a3, a4, a5, a6, a7, a8, a9, a10, a11, a12))
    (H : ∀ q, q < 12 → a1 q = 0 → ∀ al' b7 b8, pq_fr q al al' a7 b7 → pq_FO al' (upd a2 q (nI l)) (upd a3 q 0) a4 a5 b7 q → post (nI q) (al', wo, nu, lw, fo, upd a1 q 1, upd a2 q (nI l), upd a3 q 0, a4, a5, a6, b7, b8, a9, a10, a11, a12)) : wpX_create post (al, wo, nu, lw, fo, a1, a2, a3, a4, a5, a6, a7, a8, a9, a10, a11, a12) (nI l) := by
  refine br_f (nI_pos (by omega)) (pk_le l 6 (fun _ => ?_) (fun z => absurd z (by omega)))
  refine pk_loop (σ := Unit) (fun n i _ => wX_create_15 post (nI l) al wo nu lw fo a1 a2 a3 a4 a5 a6 a7 a8 a9 a10 a11 a12 n (nI i)) (fun _ _ => True) 12 0 () (by omega) trivial ?_ ?_
  · intro n s _
    exact pk_le 12 12 (fun _ => br_t rfl H0) (fun z => absurd z (by omega))
  · intro n q s hq _ hw
    have c : (nI q).toNatClampNeg = q := nI_clamp (by omega)
    have v : vp_in (nI q) 12 := pk_in q 12 hq
    refine pk_le 12 q (fun z => absurd z (by omega)) (fun _ => ⟨v, ?_⟩)
    rw [c]
    refine br_c (fun e => pk_eq q 12 (fun z => absurd z (by omega)) (fun _ => ⟨v, ?_⟩)) (fun _ => nm_r (nI_1 q) (hw () trivial))
    rw [c]
    refine nm_e ⟨v, nm_e ⟨v, nm_e (pq_file hq ⟨?_, ?_⟩ (fun al' b7 b8 f o => H q hq e al' b7 b8 f o))⟩⟩
    · rw [pk_us]
      exact pk_in 0 7 (by omega)
    · rw [pk_us]
      intro j hj
      exact absurd hj (Nat.not_lt_zero j)
theorem pq_remove {q : Nat} (hq : q < 12) (C : pq_C a3 a4 a5 q) (H0 : a1 q = 0 → ∀ r, post r (al, wo, nu, lw, fo, a1, a2, a3, a4, a5, a6, a7, a8, a9, a10, a11, a12))
    (H : ¬ a1 q = 0 → ∀ r b7 b8, (∀ t, t < 24 → b7 t = a7 t &&& (((1 : Int32) <<< (nI q &&& 31)) ^^^ (-1))) → post r (al &&& (((1 : Int32) <<< (nI q &&& 31)) ^^^ (-1)), wo, nu, lw, fo, upd a1 q 0, a2, a3, a4, a5, a6, b7, b8, a9, a10, a11, a12)) : wpX_remove post (al, wo, nu, lw, fo, a1, a2, a3, a4, a5, a6, a7, a8, a9, a10, a11, a12) (nI q) := by
  have c : (nI q).toNatClampNeg = q := nI_clamp (by omega)
  have v : vp_in (nI q) 12 := pk_in q 12 hq
  unfold wpX_remove
  refine pq_noQ hq (fun e => br_f (by decide) (H0 e _)) (fun e => br_t rfl (pq_unfile hq C (fun b7 b8 h7 => ⟨v, ?_⟩)))
  rw [c]
  refine nm_e ?_
  refine pk_loop (fun n i s => wX_remove_26 post (al &&& (((1 : Int32) <<< (nI q &&& 31)) ^^^ (-1))) wo nu lw fo (upd a1 q 0) a2 a3 a4 a5 a6 b7 b8 a9 a10 a11 a12 n s (nI i)) (fun _ _ => True) 12 0 0 (by omega) trivial ?_ ?_
  · intro n s _
    exact pk_le 12 12 (fun _ => H e s b7 b8 h7) (fun z => absurd z (by omega))
  · intro n i s hi _ hw
    exact pk_le 12 i (fun z => absurd z (by omega)) (fun _ => ⟨pk_in i 12 hi, br_c (fun _ => nm_r (nI_1 i) (hw s trivial)) (fun _ => nm_e (nm_r (nI_1 i) (hw _ trivial)))⟩)
/-- a word more -/
theorem pq_word {t w : Nat} (ht : t < 24) (ew : wo = nI w) (hw : w ≤ 16) (H0 : ∀ r, post r (al, wo, nu, lw, fo, a1, a2, a3, a4, a5, a6, a7, a8, a9, a10, a11, a12))
    (H1 : w < 16 → lw < 0 → ∀ r, post r (al, nI (w + 1), nu, nI t, fo, a1, a2, a3, a4, a5, a6, a7, a8, upd a9 t (a9 t + 1), a10, a11, a12))
    (H2 : w < 16 → ∀ r l, l < 24 → lw = nI l → post r (al, nI (w + 1), nu, nI t, fo, a1, a2, a3, a4, a5, a6, a7, a8, upd a9 t (a9 t + 1), upd a10 l (a10 l ||| ((1 : Int32) <<< (nI t &&& 31))), a11, a12))
    (hl : lw < 0 ∨ ∃ l, l < 24 ∧ lw = nI l) : wpX_word post (al, wo, nu, lw, fo, a1, a2, a3, a4, a5, a6, a7, a8, a9, a10, a11, a12) (nI t) := by
  have c : (nI t).toNatClampNeg = t := nI_clamp (by omega)
  have v : vp_in (nI t) 24 := pk_in t 24 ht
  subst ew
  unfold wpX_word
  refine pq_badT ht (br_t rfl (pk_lt w 16 (fun z => ⟨v, v, ?_⟩) (fun _ => H0 _)))
  rw [c]
  refine nm_e ?_
  rcases hl with h | ⟨l, hl, el⟩
  · exact br_t h (nm_r (nI_1 w) (H1 z h _))
  · have cl : lw.toNatClampNeg = l := by rw [el, nI_clamp (by omega)]
    have vl : vp_in lw 24 := by
      rw [el]
      exact pk_in l 24 hl
    refine br_f (by rw [el]; exact nI_pos (by omega)) ⟨vl, vl, ?_⟩
    rw [cl]
    exact nm_e (nm_r (nI_1 w) (H2 z _ l hl el))
end
theorem pq_document {post : St1 → Prop} {x : Int32} (H : ∀ b9 b10, (∀ t, t < 24 → b9 t = 0 ∧ b10 t = 0) → post (al, 0, x, (-1), fo, a1, a2, a3, a4, a5, a6, a7, a8, b9, b10, a11, a12)) : wpX_document post (al, wo, nu, lw, fo, a1, a2, a3, a4, a5, a6, a7, a8, a9, a10, a11, a12) x := by
  unfold wpX_document
  refine pk_loop (σ := (Nat → Int32) × (Nat → Int32)) (fun n t s => wX_document_17 post al 0 x ((-1)) fo n (nI t) a1 a2 a3 a4 a5 a6 a7 a8 s.1 s.2 a11 a12) (fun t s => ∀ t', t' < t → s.1 t' = 0 ∧ s.2 t' = 0) 24 0 (a9, a10) (by omega) (fun t h => absurd h (Nat.not_lt_zero t)) ?_ ?_
  · intro n s I
    exact pk_le 24 24 (fun _ => H s.1 s.2 I) (fun z => absurd z (by omega))
  · intro n t s ht I hw
    have c : (nI t).toNatClampNeg = t := nI_clamp (by omega)
    have v : vp_in (nI t) 24 := pk_in t 24 ht
    refine pk_le 24 t (fun z => absurd z (by omega)) (fun _ => ⟨v, ?_⟩)
    rw [c]
    refine nm_e ⟨v, nm_e (nm_r (nI_1 t) (hw (upd s.1 t 0, upd s.2 t 0) (fun t' h => ?_)))⟩
    show upd s.1 t 0 t' = 0 ∧ upd s.2 t 0 t' = 0
    by_cases e : t' = t
    · rw [e, pk_us, pk_us]
      exact ⟨rfl, rfl⟩
    · rw [pk_un e, pk_un e]
      exact I t' (by omega)
end
end
section
/-! the plain laws: what the methods' changes do to the invariant and to those that match -/
theorem pq_nlt {m m' : Nat} {z : Int32} (h : m ≤ m') (hm : m' < 2 ^ 31) (hz : ¬ nI m < z) : ¬ nI m' < z := by
  rw [Int32.lt_iff_toInt_lt, nI_toInt (by omega)] at hz
  rw [Int32.lt_iff_toInt_lt, nI_toInt hm]
  omega
theorem pq_nz {x : Int32} {c : Nat} (e : x = nI c) (hc : c < 2 ^ 31) (h : ¬ x = 0) : ¬ x ≤ 0 := by
  rw [e]
  refine nI_nle ?_ hc
  rcases Nat.eq_zero_or_pos c with z | z
  · rw [z, nI_0] at e
    exact absurd e h
  · exact z
theorem pq_s31 : ∀ m, m < 32 → nI m &&& 31 = nI m := by decide +kernel
/-- a shift count is one of 0 .. 31 -/
theorem pq_cnt (x : Int32) : ∃ m, m < 32 ∧ x &&& 31 = nI m &&& 31 := by
  obtain ⟨m, hm, e⟩ := pk_andE x (m := 31) 5 (by decide)
  exact ⟨m, hm, by rw [e, pq_s31 m hm]⟩
theorem pq_ph0 (x : Int32) : ¬ (((0 : Int32) >>> (x &&& 31)) &&& 1) = 1 := by
  obtain ⟨m, hm, e⟩ := pq_cnt x
  rw [e, pq_tst 0 m hm, pq_0]
  decide
section
variable {a4 a5 a9 : Nat → Int32} {b : Nat}
theorem pq_mtLe (k : Nat) : pq_mt a4 a5 a9 b k ≤ k := by
  induction k with
  | zero => exact Nat.le_refl _
  | succ k ih =>
    show pq_mt a4 a5 a9 b k + pq_if (pq_m1c a4 a5 a9 (b + k)) 1 0 ≤ k + 1
    by_cases h : pq_m1c a4 a5 a9 (b + k)
    · rw [pq_it h]; omega
    · rw [pq_ie h]; omega
theorem pq_mtPos (k : Nat) : ¬ pq_mt a4 a5 a9 b k = 0 → ∃ j, j < k ∧ pq_m1c a4 a5 a9 (b + j) := by
  induction k with
  | zero => intro h; exact absurd rfl h
  | succ k ih =>
    intro h
    by_cases c : pq_m1c a4 a5 a9 (b + k)
    · exact ⟨k, by omega, c⟩
    · have h' : ¬ pq_mt a4 a5 a9 b k + pq_if (pq_m1c a4 a5 a9 (b + k)) 1 0 = 0 := h
      rw [pq_ie c, Nat.add_zero] at h'
      obtain ⟨j, hj, d⟩ := ih h'
      exact ⟨j, by omega, d⟩
theorem pq_mtMono {c4 c5 c9 : Nat → Int32} (k : Nat) : (∀ j, j < k → pq_m1c a4 a5 a9 (b + j) → pq_m1c c4 c5 c9 (b + j)) → pq_mt a4 a5 a9 b k ≤ pq_mt c4 c5 c9 b k := by
  induction k with
  | zero => intro _; exact Nat.le_refl _
  | succ k ih =>
    intro h
    have i := ih (fun j hj => h j (by omega))
    show pq_mt a4 a5 a9 b k + pq_if (pq_m1c a4 a5 a9 (b + k)) 1 0 ≤ pq_mt c4 c5 c9 b k + pq_if (pq_m1c c4 c5 c9 (b + k)) 1 0
    by_cases c : pq_m1c a4 a5 a9 (b + k)
    · rw [pq_it c, pq_it (h k (by omega) c)]; omega
    · rw [pq_ie c]; omega
theorem pq_mtFr {c4 c5 : Nat → Int32} (k : Nat) (h4 : ∀ j, j < k → c4 (b + j) = a4 (b + j)) (h5 : ∀ j, j < k → c5 (b + j) = a5 (b + j)) : pq_mt c4 c5 a9 b k = pq_mt a4 a5 a9 b k := by
  refine Nat.le_antisymm (pq_mtMono k (fun j hj => ?_)) (pq_mtMono k (fun j hj => ?_))
  · unfold pq_m1c
    rw [h4 j hj, h5 j hj]
    exact id
  · unfold pq_m1c
    rw [h4 j hj, h5 j hj]
    exact id
end
section
variable {ng ng' al al' wo lw nu : Int32} {a1 a2 a3 a4 a5 a6 a7 a9 a10 c1 c2 c3 c4 c5 c6 c7 c9 c10 : Nat → Int32}
theorem pq_hdFr {i : Nat} (h4 : c4 i = a4 i) (h5 : c5 i = a5 i) (h6 : c6 i = a6 i) : pq_hd nu c4 c5 c6 a9 a10 i ↔ pq_hd nu a4 a5 a6 a9 a10 i := by
  unfold pq_hd
  rw [h4, h5, h6]
theorem pq_ckFr {q : Nat} (h2 : c2 q = a2 q) (h3 : c3 q = a3 q) (h4 : ∀ j, j < (a3 q).toNatClampNeg → c4 (q * 6 + j) = a4 (q * 6 + j)) (h5 : ∀ j, j < (a3 q).toNatClampNeg → c5 (q * 6 + j) = a5 (q * 6 + j)) (h6 : ∀ j, j < (a3 q).toNatClampNeg → c6 (q * 6 + j) = a6 (q * 6 + j)) :
    pq_ck nu c2 c3 c4 c5 c6 a9 a10 q ↔ pq_ck nu a2 a3 a4 a5 a6 a9 a10 q := by
  unfold pq_ck
  rw [h2, h3, pq_mtFr _ h4 h5]
  exact ⟨fun h => ⟨fun j hj => (pq_hdFr (h4 j hj) (h5 j hj) (h6 j hj)).mp (h.1 j hj), h.2⟩, fun h => ⟨fun j hj => (pq_hdFr (h4 j hj) (h5 j hj) (h6 j hj)).mpr (h.1 j hj), h.2⟩⟩
theorem pq_QFr {q : Nat} (h1 : c1 q = a1 q) (h2 : c2 q = a2 q) (h3 : c3 q = a3 q) (h4 : ∀ j, j < (a3 q).toNatClampNeg → c4 (q * 6 + j) = a4 (q * 6 + j)) (h5 : ∀ j, j < (a3 q).toNatClampNeg → c5 (q * 6 + j) = a5 (q * 6 + j))
    (hl : pq_bt al' q = pq_bt al q) (h7 : ∀ t, t < 24 → pq_bt (c7 t) q = pq_bt (a7 t) q) (hn : pq_bt ng q = true → pq_bt ng' q = true) (h : pq_Q ng al a1 a2 a3 a4 a5 a7 q) : pq_Q ng' al' c1 c2 c3 c4 c5 c7 q := by
  obtain ⟨⟨C1, C2⟩, H2, H3, H4⟩ := h
  refine ⟨⟨by rw [h3]; exact C1, ?_⟩, by rw [h2]; exact H2, ?_, ?_⟩
  · rw [h3]
    intro j hj
    unfold pq_wf
    rw [h4 j hj, h5 j hj]
    exact C2 j hj
  · rw [h1, hl]
    exact fun e => ⟨(H3 e).1, fun t ht => by rw [h7 t ht]; exact (H3 e).2 t ht⟩
  · rw [h1]
    intro e
    obtain ⟨F, N⟩ := H4 e
    refine ⟨?_, ?_⟩
    · rcases F with F | ⟨j, hj, su, F⟩ | ⟨F0, F⟩
      · exact Or.inl (by rw [hl]; exact F)
      · refine Or.inr (Or.inl ⟨j, by rw [h3]; exact hj, ?_, ?_⟩)
        · unfold pq_su
          rw [h4 j hj]
          exact su
        · rw [h5 j hj, h7 _ (pq_vn (pq_su5 (C2 j hj) su) (by decide)).2]
          exact F
      · refine Or.inr (Or.inr ⟨by rw [h2]; exact F0, ?_⟩)
        rw [h3]
        intro j hj e2
        rw [h4 j hj] at e2
        rw [h5 j hj, h7 _ (pq_vn (pq_wf' (C2 j hj) e2 (by decide)) (by decide)).2]
        exact F j hj e2
    · rw [h3]
      intro j hj e1
      rw [h4 j hj] at e1
      exact hn (N j hj e1)
/-- the invariant is all that percolate needs -/
theorem pq_okI (inv : pq_Inv ng al wo lw a1 a2 a3 a4 a5 a7 a9 a10) : pq_OK al nu a1 a2 a3 a4 a5 a6 a7 a9 a10 := by
  obtain ⟨⟨w, hw, _, D9, D10, _⟩, Q⟩ := inv
  refine ⟨fun q hq => (Q q hq).1, fun t ht => ?_, fun q hq ck => ⟨fun h u => ?_, fun us => ?_⟩⟩
  · obtain ⟨c, hc, e⟩ := D9 t ht
    rw [e]
    exact pk_in c 17 (by omega)
  · obtain ⟨_, _, Q3, _⟩ := Q q hq
    obtain ⟨n1, n2⟩ := Q3 u
    rcases h with h | ⟨t, ht, _, h⟩
    · rw [n1] at h
      exact absurd h (by decide)
    · rw [n2 t ht] at h
      exact absurd h (by decide)
  · obtain ⟨⟨C1, C2⟩, Q2, _, Q4⟩ := Q q hq
    have hk := (pq_vn C1 (by decide)).2
    rcases (Q4 us).1 with F | ⟨j, hj, su, F⟩ | ⟨F0, F⟩
    · exact Or.inl F
    · have t24 := (pq_vn (pq_su5 (C2 j hj) su) (by decide)).2
      refine Or.inr ⟨_, t24, ?_, F⟩
      rcases su with e | e
      · exact (pq_hd0 e).mp (ck.1 j hj)
      · have p := (pq_hd3 e).mp (ck.1 j hj)
        obtain ⟨c, hc, ec⟩ := D9 _ t24
        refine pq_nz ec (by omega) (fun z => ?_)
        rw [D10 _ t24 z] at p
        exact pq_ph0 _ p
    · have mp : ¬ pq_mt a4 a5 a9 (q * 6) (a3 q).toNatClampNeg = 0 := by
        intro z
        have c2 := ck.2
        rw [z, nI_0] at c2
        rw [Int32.lt_iff_toInt_lt] at c2 Q2
        refine F0 (Int32.toInt_inj.mp ?_)
        omega
      obtain ⟨j, hj, m1, m2⟩ := pq_mtPos _ mp
      exact Or.inr ⟨_, (pq_vn (pq_wf' (C2 j hj) m1 (by decide)) (by decide)).2, m2, F j hj m1⟩
/-! a clause more -/
section
variable {q : Nat} {x a b : Int32}
theorem pq_addN {p : Nat} (hp : p ≠ q) (hk : (a3 q).toNatClampNeg < 6) {j : Nat} (hj : j < 7) (hj' : j < 6) (f : Nat → Int32) (y : Int32) : upd f (q * 6 + (a3 q).toNatClampNeg) y (p * 6 + j) = f (p * 6 + j) := pk_un (by omega)
theorem pq_addInv (inv : pq_Inv ng al wo lw a1 a2 a3 a4 a5 a7 a9 a10) (hq : q < 12) (us : ¬ a1 q = 0) (hk : (a3 q).toNatClampNeg < 6) (hx : ¬ x = 4 → vp_in a 24) (f : pq_fr q al al' a7 c7)
    (o : pq_FO al' a2 (upd a3 q (nI ((a3 q).toNatClampNeg + 1))) (upd a4 (q * 6 + (a3 q).toNatClampNeg) x) (upd a5 (q * 6 + (a3 q).toNatClampNeg) a) c7 q)
    (hn : ∀ i, i < 32 → pq_bt ng i = true → pq_bt ng' i = true) (h1 : x = 1 → pq_bt ng' q = true) :
    pq_Inv ng' al' wo lw a1 a2 (upd a3 q (nI ((a3 q).toNatClampNeg + 1))) (upd a4 (q * 6 + (a3 q).toNatClampNeg) x) (upd a5 (q * 6 + (a3 q).toNatClampNeg) a) c7 a9 a10 := by
  refine ⟨inv.1, fun p hp => ?_⟩
  by_cases e : p = q
  · subst e
    obtain ⟨C, Q2, _, Q4⟩ := inv.2 p hp
    refine ⟨pq_Cadd C hk hx, Q2, fun z => absurd z us, fun _ => ⟨o, ?_⟩⟩
    rw [pk_us, nI_clamp (by omega)]
    intro j hj e1
    by_cases d : j = (a3 p).toNatClampNeg
    · rw [d, pk_us] at e1
      exact h1 e1
    · rw [pk_un (by omega)] at e1
      exact hn p (by omega) ((Q4 us).2 j (by omega) e1)
  · have kp := (pq_vn (inv.2 p hp).1.1 (by decide)).2
    exact pq_QFr rfl rfl (pk_un e) (fun j hj => pk_un (by omega)) (fun j hj => pk_un (by omega)) (f.1 p (by omega) e) (fun t ht => f.2 t ht p (by omega) e) (hn p (by omega)) (inv.2 p hp)
theorem pq_addMa (inv : pq_Inv ng al wo lw a1 a2 a3 a4 a5 a7 a9 a10) (hk : (a3 q).toNatClampNeg < 6) {p : Nat} (hp : p < 12) (e : p ≠ q) :
    pq_ma nu a1 a2 (upd a3 q (nI ((a3 q).toNatClampNeg + 1))) (upd a4 (q * 6 + (a3 q).toNatClampNeg) x) (upd a5 (q * 6 + (a3 q).toNatClampNeg) a) (upd a6 (q * 6 + (a3 q).toNatClampNeg) b) a9 a10 p ↔ pq_ma nu a1 a2 a3 a4 a5 a6 a9 a10 p := by
  have kp := (pq_vn (inv.2 p hp).1.1 (by decide)).2
  unfold pq_ma
  rw [pq_ckFr rfl (pk_un e) (fun j hj => pk_un (by omega)) (fun j hj => pk_un (by omega)) (fun j hj => pk_un (by omega))]
/-- check with the clause more -/
theorem pq_ckAdd (hk : (a3 q).toNatClampNeg < 6) : pq_ck nu a2 (upd a3 q (nI ((a3 q).toNatClampNeg + 1))) (upd a4 (q * 6 + (a3 q).toNatClampNeg) x) (upd a5 (q * 6 + (a3 q).toNatClampNeg) a) (upd a6 (q * 6 + (a3 q).toNatClampNeg) b) a9 a10 q ↔
    (∀ j, j < (a3 q).toNatClampNeg → pq_hd nu a4 a5 a6 a9 a10 (q * 6 + j)) ∧ pq_hd nu (upd a4 (q * 6 + (a3 q).toNatClampNeg) x) (upd a5 (q * 6 + (a3 q).toNatClampNeg) a) (upd a6 (q * 6 + (a3 q).toNatClampNeg) b) a9 a10 (q * 6 + (a3 q).toNatClampNeg) ∧
    ¬ nI (pq_mt a4 a5 a9 (q * 6) (a3 q).toNatClampNeg + pq_if (pq_m1c (upd a4 (q * 6 + (a3 q).toNatClampNeg) x) (upd a5 (q * 6 + (a3 q).toNatClampNeg) a) a9 (q * 6 + (a3 q).toNatClampNeg)) 1 0) < a2 q := by
  have F : ∀ j, j < (a3 q).toNatClampNeg → (pq_hd nu (upd a4 (q * 6 + (a3 q).toNatClampNeg) x) (upd a5 (q * 6 + (a3 q).toNatClampNeg) a) (upd a6 (q * 6 + (a3 q).toNatClampNeg) b) a9 a10 (q * 6 + j) ↔ pq_hd nu a4 a5 a6 a9 a10 (q * 6 + j)) := fun j hj => pq_hdFr (pk_un (by omega)) (pk_un (by omega)) (pk_un (by omega))
  have G : pq_mt (upd a4 (q * 6 + (a3 q).toNatClampNeg) x) (upd a5 (q * 6 + (a3 q).toNatClampNeg) a) a9 (q * 6) (a3 q).toNatClampNeg = pq_mt a4 a5 a9 (q * 6) (a3 q).toNatClampNeg := pq_mtFr _ (fun j hj => pk_un (by omega)) (fun j hj => pk_un (by omega))
  unfold pq_ck
  rw [pk_us, nI_clamp (by omega)]
  show (∀ j, j < (a3 q).toNatClampNeg + 1 → _) ∧ ¬ nI (pq_mt (upd a4 (q * 6 + (a3 q).toNatClampNeg) x) (upd a5 (q * 6 + (a3 q).toNatClampNeg) a) a9 (q * 6) (a3 q).toNatClampNeg + _) < a2 q ↔ _
  rw [G]
  constructor
  · rintro ⟨h1, h2⟩
    exact ⟨fun j hj => (F j hj).mp (h1 j (by omega)), h1 _ (by omega), h2⟩
  · rintro ⟨h1, h2, h3⟩
    exact ⟨lt_s (fun j hj => (F j hj).mpr (h1 j hj)) h2, h3⟩
theorem pq_addDown (hk : (a3 q).toNatClampNeg < 6) (x2 : ¬ x = 2) (h : pq_ck nu a2 (upd a3 q (nI ((a3 q).toNatClampNeg + 1))) (upd a4 (q * 6 + (a3 q).toNatClampNeg) x) (upd a5 (q * 6 + (a3 q).toNatClampNeg) a) (upd a6 (q * 6 + (a3 q).toNatClampNeg) b) a9 a10 q) : pq_ck nu a2 a3 a4 a5 a6 a9 a10 q := by
  obtain ⟨h1, _, h3⟩ := (pq_ckAdd hk).mp h
  rw [pq_ie (fun z => x2 (by have := z.1; rw [pk_us] at this; exact this)), Nat.add_zero] at h3
  exact ⟨h1, h3⟩
theorem pq_addUp (hk : (a3 q).toNatClampNeg < 6) (h : pq_ck nu a2 a3 a4 a5 a6 a9 a10 q) : pq_ck nu a2 (upd a3 q (nI ((a3 q).toNatClampNeg + 1))) (upd a4 (q * 6 + (a3 q).toNatClampNeg) 2) (upd a5 (q * 6 + (a3 q).toNatClampNeg) a) (upd a6 (q * 6 + (a3 q).toNatClampNeg) b) a9 a10 q := by
  refine (pq_ckAdd hk).mpr ⟨h.1, ?_, ?_⟩
  · refine pq_hdx ?_ ?_ ?_ ?_ <;> (rw [pk_us]; decide)
  · have l := pq_mtLe (a4 := a4) (a5 := a5) (a9 := a9) (b := q * 6) (a3 q).toNatClampNeg
    refine pq_nlt (Nat.le_add_right _ _) ?_ h.2
    by_cases c : pq_m1c (upd a4 (q * 6 + (a3 q).toNatClampNeg) 2) (upd a5 (q * 6 + (a3 q).toNatClampNeg) a) a9 (q * 6 + (a3 q).toNatClampNeg)
    · rw [pq_it c]; omega
    · rw [pq_ie c]; omega
end
/-! a query more, a query less -/
theorem pq_createInv {q l : Nat} (inv : pq_Inv ng al wo lw a1 a2 a3 a4 a5 a7 a9 a10) (hq : q < 12) (hl : l < 2 ^ 31) (f : pq_fr q al al' a7 c7) (o : pq_FO al' (upd a2 q (nI l)) (upd a3 q 0) a4 a5 c7 q) :
    pq_Inv (ng &&& (((1 : Int32) <<< (nI q &&& 31)) ^^^ (-1))) al' wo lw (upd a1 q 1) (upd a2 q (nI l)) (upd a3 q 0) a4 a5 c7 a9 a10 := by
  refine ⟨inv.1, fun p hp => ?_⟩
  by_cases e : p = q
  · subst e
    have k0 : (upd a3 p 0 p).toNatClampNeg = 0 := by
      rw [pk_us]
      rfl
    refine ⟨⟨by rw [pk_us]; exact pk_in 0 7 (by omega), ?_⟩, by rw [pk_us]; exact nI_pos hl, fun z => ?_, fun _ => ⟨o, ?_⟩⟩
    · rw [k0]
      exact fun j hj => absurd hj (Nat.not_lt_zero j)
    · rw [pk_us] at z
      exact absurd z (by decide)
    · rw [k0]
      exact fun j hj => absurd hj (Nat.not_lt_zero j)
  · exact pq_QFr (pk_un e) (pk_un e) (pk_un e) (fun j hj => rfl) (fun j hj => rfl) (f.1 p (by omega) e) (fun t ht => f.2 t ht p (by omega) e) (fun h => (pq_clr ng q (by omega) (by omega)).mpr ⟨h, e⟩) (inv.2 p hp)
theorem pq_createMa {q l : Nat} (hl : l < 2 ^ 31) : pq_ma nu (upd a1 q 1) (upd a2 q (nI l)) (upd a3 q 0) a4 a5 a6 a9 a10 q ↔ l = 0 := by
  have k0 : (upd a3 q 0 q).toNatClampNeg = 0 := by
    rw [pk_us]
    rfl
  unfold pq_ma pq_ck
  rw [k0, pk_us, pk_us]
  show (¬ (1 : Int32) = 0 ∧ (∀ j, j < 0 → _) ∧ ¬ nI 0 < nI l) ↔ _
  rw [nI_ltI (by decide) hl]
  exact ⟨fun h => by have := h.2.2; omega, fun h => ⟨by decide, fun j hj => absurd hj (Nat.not_lt_zero j), by omega⟩⟩
theorem pq_removeInv {q : Nat} (inv : pq_Inv ng al wo lw a1 a2 a3 a4 a5 a7 a9 a10) (hq : q < 12) (h7 : ∀ t, t < 24 → c7 t = a7 t &&& (((1 : Int32) <<< (nI q &&& 31)) ^^^ (-1))) :
    pq_Inv ng (al &&& (((1 : Int32) <<< (nI q &&& 31)) ^^^ (-1))) wo lw (upd a1 q 0) a2 a3 a4 a5 c7 a9 a10 := by
  refine ⟨inv.1, fun p hp => ?_⟩
  by_cases e : p = q
  · subst e
    obtain ⟨C, Q2, _, _⟩ := inv.2 p hp
    refine ⟨C, Q2, fun _ => ⟨pq_clrS _ _ (by omega), fun t ht => ?_⟩, fun z => ?_⟩
    · rw [h7 t ht]
      exact pq_clrS _ _ (by omega)
    · rw [pk_us] at z
      exact absurd rfl z
  · refine pq_QFr (pk_un e) rfl rfl (fun j hj => rfl) (fun j hj => rfl) (pq_clrN _ _ (by omega) (by omega) e) (fun t ht => ?_) id (inv.2 p hp)
    rw [h7 t ht]
    exact pq_clrN _ _ (by omega) (by omega) e
theorem pq_removeMa {q p : Nat} : pq_ma nu (upd a1 q 0) a2 a3 a4 a5 a6 a9 a10 p ↔ pq_ma nu a1 a2 a3 a4 a5 a6 a9 a10 p ∧ p ≠ q := by
  unfold pq_ma
  by_cases e : p = q
  · rw [e, pk_us]
    exact ⟨fun h => absurd rfl h.1, fun h => absurd rfl h.2⟩
  · rw [pk_un e]
    exact ⟨fun h => ⟨h, e⟩, fun h => h.1⟩
/-! the document -/
theorem pq_docInv (inv : pq_Inv ng al wo lw a1 a2 a3 a4 a5 a7 a9 a10) (h : ∀ t, t < 24 → c9 t = 0 ∧ c10 t = 0) : pq_Inv ng al 0 (-1) a1 a2 a3 a4 a5 a7 c9 c10 :=
  ⟨⟨0, by omega, rfl, fun t ht => ⟨0, by omega, (h t ht).1⟩, fun t ht _ => (h t ht).2, Or.inl (by decide)⟩, inv.2⟩
/-- counts and what stands behind have grown -/
def pq_gr (a9 a10 c9 c10 : Nat → Int32) : Prop := (∀ t, t < 24 → ¬ a9 t ≤ 0 → ¬ c9 t ≤ 0) ∧ (∀ t, t < 24 → ∀ x : Int32, ((a10 t >>> (x &&& 31)) &&& 1) = 1 → ((c10 t >>> (x &&& 31)) &&& 1) = 1)
theorem pq_grMa {q : Nat} (C : pq_C a3 a4 a5 q) (g : pq_gr a9 a10 c9 c10) (no : ∀ j, j < (a3 q).toNatClampNeg → ¬ a4 (q * 6 + j) = 1) (h : pq_ma nu a1 a2 a3 a4 a5 a6 a9 a10 q) : pq_ma nu a1 a2 a3 a4 a5 a6 c9 c10 q := by
  obtain ⟨C1, C2⟩ := C
  have hk := (pq_vn C1 (by decide)).2
  refine ⟨h.1, fun j hj => ?_, ?_⟩
  · obtain ⟨p0, p1, p3, p4⟩ := h.2.1 j hj
    refine ⟨fun e => g.1 _ (pq_vn (pq_wf' (C2 j hj) e (by decide)) (by decide)).2 (p0 e), fun e => absurd e (no j hj), fun e => g.2 _ (pq_vn (pq_wf' (C2 j hj) e (by decide)) (by decide)).2 _ (p3 e), p4⟩
  · refine pq_nlt (pq_mtMono _ (fun j hj m => ⟨m.1, g.1 _ (pq_vn (pq_wf' (C2 j hj) m.1 (by decide)) (by decide)).2 m.2⟩)) ?_ h.2.2
    have l := pq_mtLe (a4 := a4) (a5 := a5) (a9 := c9) (b := q * 6) (a3 q).toNatClampNeg
    omega
theorem pq_wordMa {q : Nat} (inv : pq_Inv ng al wo lw a1 a2 a3 a4 a5 a7 a9 a10) (g : pq_gr a9 a10 c9 c10) (hq : q < 12) (h : pq_ma nu a1 a2 a3 a4 a5 a6 a9 a10 q) (h' : ¬ pq_ma nu a1 a2 a3 a4 a5 a6 c9 c10 q) : pq_bt ng q = true := by
  obtain ⟨C, _, _, Q4⟩ := inv.2 q hq
  rcases Bool.eq_false_or_eq_true (pq_bt ng q) with e | e
  · exact e
  · refine absurd (pq_grMa C g (fun j hj e1 => ?_) h) h'
    rw [(Q4 h.1).2 j hj e1] at e
    exact absurd e (by decide)
theorem pq_gr9 {t w : Nat} (h9 : ∀ s, s < 24 → ∃ c, c ≤ w ∧ a9 s = nI c) (hw : w < 16) (ht : t < 24) : (∀ s, s < 24 → ∃ c, c ≤ w + 1 ∧ upd a9 t (a9 t + 1) s = nI c) ∧ (∀ s, s < 24 → ¬ a9 s = 0 → ¬ upd a9 t (a9 t + 1) s = 0) ∧ ¬ upd a9 t (a9 t + 1) t = 0 := by
  obtain ⟨c, hc, e⟩ := h9 t ht
  have n : ¬ a9 t + 1 = 0 := by
    rw [e, nI_1]
    exact nI_ne0 (by omega) (by omega)
  refine ⟨fun s hs => ?_, fun s hs h => ?_, by rw [pk_us]; exact n⟩
  · by_cases d : s = t
    · rw [d, pk_us, e, nI_1]
      exact ⟨c + 1, by omega, rfl⟩
    · rw [pk_un d]
      obtain ⟨c', hc', e'⟩ := h9 s hs
      exact ⟨c', by omega, e'⟩
  · by_cases d : s = t
    · rw [d, pk_us]
      exact n
    · rw [pk_un d]
      exact h
theorem pq_gr9' {t w : Nat} (h9 : ∀ s, s < 24 → ∃ c, c ≤ w ∧ a9 s = nI c) (hw : w < 16) (ht : t < 24) : ∀ s, s < 24 → ¬ a9 s ≤ 0 → ¬ upd a9 t (a9 t + 1) s ≤ 0 := by
  obtain ⟨g1, g2, _⟩ := pq_gr9 h9 hw ht
  intro s hs h
  obtain ⟨c, hc, e⟩ := g1 s hs
  refine pq_nz e (by omega) (g2 s hs (fun z => h ?_))
  rw [z]
  decide
theorem pq_word1 {t w : Nat} (inv : pq_Inv ng (al) (nI w) lw a1 a2 a3 a4 a5 a7 a9 a10) (ht : t < 24) (hw : w < 16) : pq_Inv ng al (nI (w + 1)) (nI t) a1 a2 a3 a4 a5 a7 (upd a9 t (a9 t + 1)) a10 ∧ pq_gr a9 a10 (upd a9 t (a9 t + 1)) a10 := by
  obtain ⟨⟨w', hw', ew, D9, D10, DL⟩, Q⟩ := inv
  have : w = w' := (nI_eq (by omega) (by omega)).mp ew
  subst this
  obtain ⟨g1, g2, g3⟩ := pq_gr9 D9 hw ht
  refine ⟨⟨⟨w + 1, by omega, rfl, g1, fun s hs z => D10 s hs ?_, Or.inr ⟨t, ht, rfl, g3⟩⟩, Q⟩, pq_gr9' D9 hw ht, fun s hs x h => h⟩
  exact Classical.byContradiction (fun y => g2 s hs y z)
theorem pq_word2 {t l w : Nat} (inv : pq_Inv ng al (nI w) (nI l) a1 a2 a3 a4 a5 a7 a9 a10) (ht : t < 24) (hl : l < 24) (hw : w < 16) :
    pq_Inv ng al (nI (w + 1)) (nI t) a1 a2 a3 a4 a5 a7 (upd a9 t (a9 t + 1)) (upd a10 l (a10 l ||| ((1 : Int32) <<< (nI t &&& 31)))) ∧ pq_gr a9 a10 (upd a9 t (a9 t + 1)) (upd a10 l (a10 l ||| ((1 : Int32) <<< (nI t &&& 31)))) := by
  obtain ⟨⟨w', hw', ew, D9, D10, DL⟩, Q⟩ := inv
  have : w = w' := (nI_eq (by omega) (by omega)).mp ew
  subst this
  obtain ⟨g1, g2, g3⟩ := pq_gr9 D9 hw ht
  have nl : ¬ a9 l = 0 := by
    rcases DL with d | ⟨l', hl', el, d⟩
    · exact absurd d (nI_pos (by omega))
    · have : l = l' := (nI_eq (by omega) (by omega)).mp el
      rw [this]
      exact d
  refine ⟨⟨⟨w + 1, by omega, rfl, g1, fun s hs z => ?_, Or.inr ⟨t, ht, rfl, g3⟩⟩, Q⟩, pq_gr9' D9 hw ht, fun s hs x h => ?_⟩
  · have z' : a9 s = 0 := Classical.byContradiction (fun y => g2 s hs y z)
    have sl : s ≠ l := fun d => nl (by rw [← d]; exact z')
    rw [pk_un sl]
    exact D10 s hs z'
  · by_cases d : s = l
    · obtain ⟨m, hm, e⟩ := pq_cnt x
      rw [e, d] at h ⊢
      rw [pk_us, pq_tst _ m hm, pq_or, (pq_tst _ m hm).mp h, Bool.true_or]
    · rw [pk_un d]
      exact h
end
/-! the law's conditions, bit by bit -/
section
variable {M M' : Nat → Prop} {r r' : Int32}
theorem pq_c1 (h : pq_B M r) (h' : pq_B M' r') (s : ∀ i, i < 12 → M i → M' i) : (r &&& (r' ^^^ (-1))) = 0 := by
  refine pq_z (fun i hi => ?_)
  rw [pq_and, pq_not _ hi]
  by_cases b : pq_bt r i = true
  · obtain ⟨b1, b2⟩ := (h i hi).mp b
    rw [(h' i hi).mpr ⟨b1, s i b1 b2⟩, Bool.not_true, Bool.and_false]
  · rw [pq_nf b, Bool.false_and]
theorem pq_c2 {q : Nat} (hq : q < 12) (h : pq_B M r) (h' : pq_B M' r') (s : ∀ i, i < 12 → i ≠ q → (M i ↔ M' i)) : (r ||| ((1 : Int32) <<< (nI q &&& 31))) = (r' ||| ((1 : Int32) <<< (nI q &&& 31))) := by
  refine pq_ext (fun i hi => pq_beq ?_)
  rw [pq_set _ _ (by omega) hi, pq_set _ _ (by omega) hi, h i hi, h' i hi]
  by_cases e : i = q
  · exact ⟨fun _ => Or.inr e, fun _ => Or.inr e⟩
  · constructor
    · rintro (⟨b1, b2⟩ | z)
      · exact Or.inl ⟨b1, (s i b1 e).mp b2⟩
      · exact absurd z e
    · rintro (⟨b1, b2⟩ | z)
      · exact Or.inl ⟨b1, (s i b1 e).mpr b2⟩
      · exact absurd z e
theorem pq_c3 {q : Nat} (hq : q < 12) (h : pq_B M r) (h' : pq_B M' r') (s : ∀ i, i < 12 → i ≠ q → M i → M' i) : ((r &&& (r' ^^^ (-1))) &&& (((1 : Int32) <<< (nI q &&& 31)) ^^^ (-1))) = 0 := by
  refine pq_z (fun i hi => pq_nf (fun b => ?_))
  obtain ⟨b1, b2⟩ := (pq_clr _ _ (by omega) hi).mp b
  rw [pq_and, pq_not _ hi, Bool.and_eq_true] at b1
  obtain ⟨d1, d2⟩ := (h i hi).mp b1.1
  rw [(h' i hi).mpr ⟨d1, s i d1 b2 d2⟩] at b1
  exact absurd b1.2 (by decide)
theorem pq_c4 {ng : Int32} (h : pq_B M r) (h' : pq_B M' r') (s : ∀ i, i < 12 → M i → ¬ M' i → pq_bt ng i = true) : ((r &&& (r' ^^^ (-1))) &&& (ng ^^^ (-1))) = 0 := by
  refine pq_z (fun i hi => pq_nf (fun b => ?_))
  rw [pq_and, pq_and, pq_not _ hi, pq_not _ hi, Bool.and_eq_true, Bool.and_eq_true] at b
  obtain ⟨d1, d2⟩ := (h i hi).mp b.1.1
  by_cases m : M' i
  · have x := b.1.2
    rw [(h' i hi).mpr ⟨d1, m⟩] at x
    exact absurd x (by decide)
  · have x := b.2
    rw [s i d1 d2 m] at x
    exact absurd x (by decide)
theorem pq_c5 {q : Nat} (hq : q < 12) (h : pq_B M r) (h' : pq_B M' r') (s : ∀ i, i < 12 → (M' i ↔ M i ∧ i ≠ q)) : r' = (r &&& (((1 : Int32) <<< (nI q &&& 31)) ^^^ (-1))) := by
  refine pq_ext (fun i hi => pq_beq ?_)
  rw [pq_clr _ _ (by omega) hi, h i hi, h' i hi]
  constructor
  · rintro ⟨b1, b2⟩
    exact ⟨⟨b1, ((s i b1).mp b2).1⟩, ((s i b1).mp b2).2⟩
  · rintro ⟨⟨b1, b2⟩, b3⟩
    exact ⟨b1, (s i b1).mpr ⟨b2, b3⟩⟩
end
end
section
/-! the law -/
/-- the turn goes on from any state that holds the invariant -/
def pq_J (J : Int32 → Int32 → Int32 → Int32 → Int32 → Int32 → Int32 → (Nat → Int32) → (Nat → Int32) → (Nat → Int32) → (Nat → Int32) → (Nat → Int32) → (Nat → Int32) → (Nat → Int32) → (Nat → Int32) → (Nat → Int32) → (Nat → Int32) → (Nat → Int32) → (Nat → Int32) → Prop) (x3 : Int32) : Prop := ∀ {ng : Int32} {al wo nu lw fo : Int32} {a1 a2 a3 a4 a5 a6 a7 a8 a9 a10 a11 a12 : Nat → Int32}, pq_Inv ng al wo lw a1 a2 a3 a4 a5 a7 a9 a10 → J ng (x3 + 2) al wo nu lw fo a1 a2 a3 a4 a5 a6 a7 a8 a9 a10 a11 a12
section
variable {ng x3 : Int32} {al wo nu lw fo : Int32} {a1 a2 a3 a4 a5 a6 a7 a8 a9 a10 a11 a12 : Nat → Int32} {L kc ks : Nat} {xs : Nat → Int32} {J : Int32 → Int32 → Int32 → Int32 → Int32 → Int32 → Int32 → (Nat → Int32) → (Nat → Int32) → (Nat → Int32) → (Nat → Int32) → (Nat → Int32) → (Nat → Int32) → (Nat → Int32) → (Nat → Int32) → (Nat → Int32) → (Nat → Int32) → (Nat → Int32) → (Nat → Int32) → Prop}
theorem pq_l386 (inv : pq_Inv ng al wo lw a1 a2 a3 a4 a5 a7 a9 a10) (hJ : pq_J J x3) : wL_law_386 (fun r => r = 1) L xs J ng x3 kc ks al wo nu lw fo a1 a2 a3 a4 a5 a6 a7 a8 a9 a10 a11 a12 := by
  unfold wL_law_386
  exact pq_listed (pq_okI inv) (fun f b11 b12 => br_f (by decide) (nm_e (hJ inv)))
theorem pq_iC (inv : pq_Inv ng al wo lw a1 a2 a3 a4 a5 a7 a9 a10) : ∀ q, q < 12 → pq_C a3 a4 a5 q := fun q hq => (inv.2 q hq).1
theorem pq_l188 {q : Nat} {x9 : Int32} {M : Nat → Prop} (hq : q < 12) (inv : pq_Inv ng al wo lw a1 a2 a3 a4 a5 a7 a9 a10) (hb : pq_B M x9) (d : ∀ i, i < 12 → pq_ma nu a1 a2 a3 a4 a5 a6 a9 a10 i → M i) (e : ∀ i, i < 12 → i ≠ q → (pq_ma nu a1 a2 a3 a4 a5 a6 a9 a10 i ↔ M i)) (hJ : pq_J J x3) :
    wL_law_188 (fun r => r = 1) L xs J ng x3 (nI q) x9 kc ks al wo nu lw fo a1 a2 a3 a4 a5 a6 a7 a8 a9 a10 a11 a12 := by
  unfold wL_law_188
  exact pq_matching (pq_iC inv) (fun r hr => br_t (pq_c1 hr hb d) (br_t (pq_c2 hq hr hb e) (pq_l386 inv hJ)))
theorem pq_l106N {x5 : Int32} (inv : pq_Inv ng al wo lw a1 a2 a3 a4 a5 a7 a9 a10) (hJ : pq_J J x3) : wL_law_106 (fun r => r = 1) L xs J ng x3 x5 (-3) kc ks al wo nu lw fo a1 a2 a3 a4 a5 a6 a7 a8 a9 a10 a11 a12 := by
  unfold wL_law_106 wL_law_137
  exact br_t (by decide) (pq_l386 inv hJ)
theorem pq_l106 {x5 : Int32} {q l : Nat} (hq : q < 12) (hl : l < 2) (e5 : (x5 >>> ((12 : Int32) &&& 31)) &&& 1 = nI l) (inv : pq_Inv ng al wo lw a1 a2 a3 a4 a5 a7 a9 a10) (m : pq_ma nu a1 a2 a3 a4 a5 a6 a9 a10 q ↔ l = 0) (hJ : pq_J J x3) :
    wL_law_106 (fun r => r = 1) L xs J ng x3 x5 (nI q) kc ks al wo nu lw fo a1 a2 a3 a4 a5 a6 a7 a8 a9 a10 a11 a12 := by
  unfold wL_law_106 wL_law_132 wL_law_137
  rw [e5]
  refine br_f (nI_pos (by omega)) (pq_mq hq (pq_iC inv q hq) (fun h => pk_eq l 0 (fun _ => br_t rfl (pq_l386 inv hJ)) (fun z => absurd (m.mp h) z)) (fun h => pk_eq l 0 (fun z => absurd (m.mpr z) h) (fun _ => br_t rfl (pq_l386 inv hJ))))
end
theorem pq_lc {L i : Nat} (hL : L ≤ 260) (hi : i ≤ 262) : Int32.ofNat L - 2 < nI i ↔ L < i + 2 := by
  have e : (Int32.ofNat L - 2).toInt = (L : Int) - 2 := pk_sub_toInt (a := L) (b := 2) (by omega) (by omega)
  rw [Int32.lt_iff_toInt_lt, e, nI_toInt (by omega)]
  omega
theorem pq_law12 {L kc ks : Nat} {xs : Nat → Int32} (hL : L ≤ 260) : ∀ (n i : Nat) (ng : Int32) (al wo nu lw fo : Int32) (a1 a2 a3 a4 a5 a6 a7 a8 a9 a10 a11 a12 : Nat → Int32), i ≤ L → L < n + i → pq_Inv ng al wo lw a1 a2 a3 a4 a5 a7 a9 a10 → wL_law_12 (fun r => r = 1) L xs kc ks n ng (nI i) al wo nu lw fo a1 a2 a3 a4 a5 a6 a7 a8 a9 a10 a11 a12 := by
  intro n
  induction n with
  | zero => intro i ng al wo nu lw fo a1 a2 a3 a4 a5 a6 a7 a8 a9 a10 a11 a12 h1 h2; omega
  | succ n ih =>
    intro i ng al wo nu lw fo a1 a2 a3 a4 a5 a6 a7 a8 a9 a10 a11 a12 h1 h2 inv
    by_cases hx : L < i + 2
    · exact br_t ((pq_lc hL (by omega)).mpr hx) rfl
    have hJ : pq_J (wL_law_12 (fun r => r = 1) L xs kc ks n) (nI i) := by
      intro ng al wo nu lw fo a1 a2 a3 a4 a5 a6 a7 a8 a9 a10 a11 a12 inv
      have e : nI i + 2 = nI (i + 2) := nI_add i 2
      rw [e]
      exact ih (i + 2) ng al wo nu lw fo a1 a2 a3 a4 a5 a6 a7 a8 a9 a10 a11 a12 (by omega) (by omega) inv
    have hC := pq_iC inv
    refine br_f (fun z => hx ((pq_lc hL (by omega)).mp z)) ⟨pk_in i L (by omega), fun x4 e4 => ⟨pk_in (i + 1) L (by omega) (nI_1 i), fun x5 _ => ⟨by decide, fun x6 e6 x7 e7 x8 e8 => ?_⟩⟩⟩
    obtain ⟨op, hop, eop⟩ := pk_andE (xs (nI i).toNatClampNeg) (m := 15) 4 (by decide)
    obtain ⟨p, hp, ep⟩ := pk_andE x5 (m := 255) 8 (by decide)
    obtain ⟨t, ht, et⟩ := pk_andE (x5 >>> ((8 : Int32) &&& 31)) (m := 3) 2 (by decide)
    obtain ⟨u, hu, eu⟩ := pk_andE (x5 >>> ((10 : Int32) &&& 31)) (m := 3) 2 (by decide)
    obtain ⟨kd, hkd, ekd⟩ := pk_andE (x5 >>> ((12 : Int32) &&& 31)) (m := 7) 3 (by decide)
    obtain ⟨l, hl, el⟩ := pk_andE (x5 >>> ((12 : Int32) &&& 31)) (m := 1) 1 (by decide)
    have hop : op < 16 := hop
    have hp : p < 256 := hp
    have ht : t < 4 := ht
    have hu : u < 4 := hu
    have hkd : kd < 8 := hkd
    have hl : l < 2 := hl
    rw [eop] at e4
    rw [et] at e7
    rw [eu] at e8
    have e6 : x6 = nI (p % 6) := by
      rw [ep] at e6
      exact e6.trans (pk_rem (d := 6) (by omega) (by decide) (by decide))
    have hq : p % 6 < 12 := by omega
    revert e6 hq
    generalize p % 6 = q
    intro e6 hq
    subst e4 e6 e7 e8
    refine pq_matching hC (fun r57 h57 => ?_)
    refine pk_lt 2 op (fun _ => pk_lt 5 op (fun _ => pk_eq op 6 (fun _ => ?_) (fun _ => pk_lt 12 op (fun _ => pk_eq op 13 (fun _ => ?_) (fun _ => pk_eq op 14 (fun _ => br_c (fun _ => ?_) (fun _ => ?_)) (fun _ => ?_))) (fun _ => ?_))) (fun _ => ?_)) (fun _ => ?_)
    · -- should
      refine pq_should hq (hC q hq) (by omega) (fun r _ => ?_) (fun us k al' b7 b8 f o => ?_)
      · exact pq_matching hC (fun r' h' => br_t (pq_c1 h57 h' (fun _ _ m => m)) (br_t (pq_c3 hq h' h57 (fun _ _ _ m => m)) (pq_l386 inv hJ)))
      · have inv' := pq_addInv (ng' := ng) inv hq us k (x := 2) (a := nI t) (fun _ => pk_in t 24 (by omega)) f o (fun _ _ b => b) (fun z => absurd z (by decide))
        refine pq_matching (pq_iC inv') (fun r' h' => br_t (pq_c1 h57 h' (fun i hi m => ?_)) (br_t (pq_c3 hq h' h57 (fun i hi e m => (pq_addMa inv k hi e).mp m)) (pq_l386 inv' hJ)))
        by_cases e : i = q
        · rw [e] at m ⊢
          exact ⟨m.1, pq_addUp k m.2⟩
        · exact (pq_addMa inv k hi e).mpr m
    · -- document
      exact pq_document (fun b9 b10 h => pq_l386 (pq_docInv inv h) hJ)
    · -- remove
      refine pq_remove hq (hC q hq) (fun z r => ?_) (fun us r b7 b8 h7 => ?_)
      · exact pq_matching hC (fun r' h' => br_t (pq_c5 hq h57 h' (fun i hi => ⟨fun m => ⟨m, fun e => m.1 (by rw [e]; exact z)⟩, fun m => m.1⟩)) (pq_l386 inv hJ))
      · have inv' := pq_removeInv inv hq h7
        exact pq_matching (pq_iC inv') (fun r' h' => br_t (pq_c5 hq h57 h' (fun i hi => pq_removeMa)) (pq_l386 inv' hJ))
    · exact pq_l386 inv hJ
    · exact pq_l386 inv hJ
    · -- word
      obtain ⟨w, hw, ew, _, _, DL⟩ := inv.1
      refine pq_word (by omega) ew hw (fun r => ?_) (fun hw' _ r => ?_) (fun hw' r l hl el => ?_) (DL.imp id (fun ⟨l, hl, el, _⟩ => ⟨l, hl, el⟩))
      · exact pq_matching hC (fun r' h' => br_t (pq_c4 h57 h' (fun i hi m n => absurd m n)) (pq_l386 inv hJ))
      · subst ew
        obtain ⟨inv', g⟩ := pq_word1 inv (show t < 24 by omega) hw'
        exact pq_matching (pq_iC inv') (fun r' h' => br_t (pq_c4 h57 h' (fun i hi m n => pq_wordMa inv g hi m n)) (pq_l386 inv' hJ))
      · subst ew el
        obtain ⟨inv', g⟩ := pq_word2 inv (show t < 24 by omega) hl hw'
        exact pq_matching (pq_iC inv') (fun r' h' => br_t (pq_c4 h57 h' (fun i hi m n => pq_wordMa inv g hi m n)) (pq_l386 inv' hJ))
    · -- clause
      rw [ekd]
      refine nm_e (pq_clause hq (hC q hq) hkd ht hu (fun r hr => ?_) (fun x a b x2 hx x1 us k al' b7 b8 f o => ?_))
      · exact br_t hr (pq_l188 hq inv h57 (fun _ _ m => m) (fun _ _ _ => Iff.rfl) hJ)
      · have dn : ∀ i, i < 12 → pq_ma nu a1 a2 (upd a3 q (nI ((a3 q).toNatClampNeg + 1))) (upd a4 (q * 6 + (a3 q).toNatClampNeg) x) (upd a5 (q * 6 + (a3 q).toNatClampNeg) a) (upd a6 (q * 6 + (a3 q).toNatClampNeg) b) a9 a10 i → pq_ma nu a1 a2 a3 a4 a5 a6 a9 a10 i := by
          intro i hi m
          by_cases e : i = q
          · rw [e] at m ⊢
            exact ⟨m.1, pq_addDown k x2 m.2⟩
          · exact (pq_addMa inv k hi e).mp m
        refine br_f (nI_nle (by omega) (by omega)) (pk_eq kd 4 (fun _ => nm_e ?_) (fun e4 => ?_))
        · exact pq_l188 hq (pq_addInv inv hq us k hx f o (fun i hi b => (pq_set _ _ (by omega) hi).mpr (Or.inl b)) (fun _ => (pq_set _ _ (by omega) (by omega)).mpr (Or.inr rfl))) h57 dn (fun i hi e => pq_addMa inv k hi e) hJ
        · exact pq_l188 hq (pq_addInv inv hq us k hx f o (fun i hi b => b) (fun z => absurd (x1 z) e4)) h57 dn (fun i hi e => pq_addMa inv k hi e) hJ
    · -- create
      rw [el]
      refine pq_create (by omega) (br_t (by decide) (pq_l106N inv hJ)) (fun r hr z al' b7 b8 f o => br_f (nI_pos (by omega)) (nm_e ?_))
      exact pq_l106 hr hl el (pq_createInv inv hr (by omega) f o) (pq_createMa (by omega)) hJ
theorem pq_inv0 : pq_Inv 0 0 0 (-1) (fun _ => 0) (fun _ => 0) (fun _ => 0) (fun _ => 0) (fun _ => 0) (fun _ => 0) (fun _ => 0) (fun _ => 0) := by
  refine ⟨⟨0, by omega, rfl, fun t _ => ⟨0, by omega, rfl⟩, fun t _ _ => rfl, Or.inl (by decide)⟩, fun q hq => ⟨⟨pk_in 0 7 (by omega), fun j hj => ?_⟩, ?_, fun _ => ⟨pq_0 q, fun t _ => pq_0 q⟩, fun z => absurd rfl z⟩⟩
  · exact absurd hj (by rw [show ((fun _ : Nat => (0 : Int32)) q).toNatClampNeg = 0 from rfl]; exact Nat.not_lt_zero j)
  · show ¬ (0 : Int32) < 0
    decide
theorem i_vc (xs : Nat → Int32) (L : Nat) (hL : L ≤ 260) : wpL_law (fun r => r = 1) L xs := by
  have h := pq_law12 (kc := 1 + 12) (ks := 17 + 372) (xs := xs) hL (L + 1) 0 0 0 0 0 (-1) 0 (fun _ => 0) (fun _ => 0) (fun _ => 0) (fun _ => 0) (fun _ => 0) (fun _ => 0) (fun _ => 0) (fun _ => 0) (fun _ => 0) (fun _ => 0) (fun _ => 0) (fun _ => 0) (by omega) (by omega) pq_inv0
  rw [nI_0] at h
  exact ⟨12, 372, by decide, by decide, by decide, by decide, by decide, by decide, by decide, by decide, by decide, by decide, by decide, by decide, by decide, by decide, by decide, by decide, by decide, by decide, by decide, by decide, by decide, by decide, by decide, by decide, by decide, by decide, L + 1, h⟩
end
