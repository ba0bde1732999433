section
/-! bits of an int: sets of vertices. ck_t .. ck_sshr are rows of kit/laws/BITS.to-paste under names of this claim -/
theorem ck_bt {b : Bool} (h : ¬ b = false) : b = true := by cases b <;> simp_all
theorem ck_bf {b : Bool} (h : ¬ b = true) : b = false := by cases b <;> simp_all
def ck_t (x : Int32) (i : Nat) : Bool := x.toBitVec.getLsbD i
theorem ck_ext {x y : Int32} (h : ∀ i, i < 32 → ck_t x i = ck_t y i) : x = y := Int32.toBitVec_inj.mp (BitVec.eq_of_getLsbD_eq (fun i hi => h i hi))
theorem ck_tor (x y : Int32) (i : Nat) : ck_t (x ||| y) i = (ck_t x i || ck_t y i) := by unfold ck_t; rw [Int32.toBitVec_or, BitVec.getLsbD_or]
theorem ck_tand (x y : Int32) (i : Nat) : ck_t (x &&& y) i = (ck_t x i && ck_t y i) := by unfold ck_t; rw [Int32.toBitVec_and, BitVec.getLsbD_and]
theorem ck_txor (x y : Int32) (i : Nat) : ck_t (x ^^^ y) i = (ck_t x i ^^ ck_t y i) := by unfold ck_t; rw [Int32.toBitVec_xor, BitVec.getLsbD_xor]
theorem ck_tm1 : ∀ i, i < 32 → ck_t (-1) i = true := by decide +kernel
theorem ck_t0 (i : Nat) : ck_t 0 i = false := BitVec.getLsbD_zero
theorem ck_t1 : ∀ i, i < 32 → ck_t 1 i = decide (i = 0) := by decide +kernel
theorem ck_t255 : ∀ i, i < 8 → ck_t 255 i = true := by decide +kernel
theorem ck_sl : ∀ n, n < 32 → ((nI n &&& 31).toBitVec.smod 32).toNat = n := by decide +kernel
theorem ck_sshr (n : Nat) (hn : n < 32) (x : Int32) {i : Nat} (hi : i < 32) : ck_t (x >>> (nI n &&& 31)) i = if n + i < 32 then ck_t x (n + i) else ck_t x 31 := by
  unfold ck_t
  rw [Int32.toBitVec_shiftRight]
  show (x.toBitVec.sshiftRight ((nI n &&& 31).toBitVec.smod 32).toNat).getLsbD i = _
  rw [ck_sl n hn, BitVec.getLsbD_sshiftRight, BitVec.msb_eq_getLsbD_last]
  simp [hi]
theorem ck_tnot (x : Int32) {i : Nat} (hi : i < 32) : ck_t (x ^^^ (-1)) i = !ck_t x i := by
  rw [ck_txor, ck_tm1 i hi, Bool.xor_true]
/-- a store into a short keeps the low bits -/
theorem ck_t16 (x : Int32) {i : Nat} (hi : i < 8) : ck_t x.toInt16.toInt32 i = ck_t x i := by
  unfold ck_t
  rw [Int16.toBitVec_toInt32, Int32.toBitVec_toInt16, BitVec.getLsbD_signExtend, BitVec.getLsbD_signExtend, if_pos (by omega), if_pos (by omega)]
  simp only [show i < 32 by omega, show i < 16 by omega, decide_true, Bool.true_and]
/-- what in(set, v) tests -/
theorem ck_in {v : Nat} (hv : v < 8) (x : Int32) : ((x >>> (nI v &&& 31)) &&& 1) = 0 ↔ ck_t x v = false := by
  constructor
  · intro h
    have e : ck_t ((x >>> (nI v &&& 31)) &&& 1) 0 = false := by rw [h]; exact ck_t0 0
    rw [ck_tand, ck_sshr v (by omega) x (by omega), ck_t1 0 (by omega), if_pos (by omega), Nat.add_zero] at e
    simpa using e
  · intro h
    apply ck_ext
    intro i hi
    rw [ck_tand, ck_t1 i hi, ck_t0]
    by_cases e : i = 0
    · rw [e, ck_sshr v (by omega) x (by omega), if_pos (by omega), Nat.add_zero, h]
      rfl
    · rw [decide_eq_false e, Bool.and_false]
/-- one vertex -/
def ck_bit (k : Nat) : Int32 := (1 : Int32) <<< (nI k &&& 31)
theorem ck_tbit : ∀ k, k < 8 → ∀ i, i < 32 → ck_t (ck_bit k) i = decide (i = k) := by decide +kernel
theorem ck_bne : ∀ k, k < 8 → ¬ ck_bit k = 0 := by decide +kernel
theorem ck_b16 : ∀ k, k < 8 → ((0 : Int32) ||| ck_bit k).toInt16.toInt32 = ck_bit k := by decide +kernel
theorem ck_z (s : Int32) : (0 : Int32) &&& s = 0 := by
  apply ck_ext
  intro i _
  rw [ck_tand, ck_t0, Bool.false_and]
theorem ck_band {k : Nat} (hk : k < 8) (s : Int32) : ck_bit k &&& s = if ck_t s k = true then ck_bit k else 0 := by
  apply ck_ext
  intro i hi
  rw [ck_tand, ck_tbit k hk i hi]
  by_cases c : ck_t s k = true
  · rw [if_pos c, ck_tbit k hk i hi]
    by_cases e : i = k
    · rw [e, c, Bool.and_true]
    · rw [decide_eq_false e, Bool.false_and]
  · rw [if_neg c, ck_t0]
    by_cases e : i = k
    · rw [e, ck_bf c, Bool.and_false]
    · rw [decide_eq_false e, Bool.false_and]
theorem ck_ends {A B : Nat} (hA : A < 8) (hB : B < 8) (s : Int32) : (s &&& (ck_bit A ||| ck_bit B)) = 0 ↔ ck_t s A = false ∧ ck_t s B = false := by
  constructor
  · intro h
    have e : ∀ i, ck_t (s &&& (ck_bit A ||| ck_bit B)) i = false := fun i => by rw [h]; exact ck_t0 i
    have eA := e A
    have eB := e B
    rw [ck_tand, ck_tor, ck_tbit A hA A (by omega), decide_eq_true rfl, Bool.true_or, Bool.and_true] at eA
    rw [ck_tand, ck_tor, ck_tbit B hB B (by omega), decide_eq_true rfl, Bool.or_true, Bool.and_true] at eB
    exact ⟨eA, eB⟩
  · intro h
    apply ck_ext
    intro i hi
    rw [ck_tand, ck_tor, ck_tbit A hA i hi, ck_tbit B hB i hi, ck_t0]
    by_cases a : i = A
    · rw [a, h.1, Bool.false_and]
    · by_cases b : i = B
      · rw [b, h.2, Bool.false_and]
      · rw [decide_eq_false a, decide_eq_false b, Bool.or_false, Bool.and_false]
/-- an answer: 1 or 0 -/
def ck_i (b : Bool) : Int32 := if b = true then 1 else 0
theorem ck_i0 {b : Bool} : ck_i b = 0 ↔ b = false := by cases b <;> decide
theorem ck_87 {x : Int32} : 8 ≤ x ↔ 7 < x := by
  rw [Int32.le_iff_toInt_le, Int32.lt_iff_toInt_lt, show (8 : Int32).toInt = 8 from by decide, show (7 : Int32).toInt = 7 from by decide]
  omega
theorem ck_nle {x y : Int32} : ¬ x ≤ y ↔ y < x := by
  rw [Int32.le_iff_toInt_le, Int32.lt_iff_toInt_lt]
  omega
theorem ck_b8 : ∀ v, v < 8 → (nI v).toInt8.toInt32 = nI v := by decide +kernel
end
section
theorem ck_wpin {post : Int32 → Prop} {s : Int32} {v : Nat} (hv : v < 8) (h0 : ck_t s v = false → post 0) (h1 : ck_t s v = true → post 1) : wpX_in post () s (nI v) :=
  ek_if (ck_in hv s) h0 (fun h => h1 (ck_bt h))
/-- the ones among the first n bits -/
def ck_os (x : Int32) : Nat → Int32
  | 0 => 0
  | n + 1 => ck_os x n + ((x >>> (nI n &&& 31)) &&& 1)
theorem ck_os0 : ck_os 0 8 = 0 := by decide +kernel
theorem ck_osb : ∀ k, k < 8 → ck_os (ck_bit k) 8 = 1 := by decide +kernel
theorem ck_wpones {post : Int32 → Prop} {x : Int32} (h : post (ck_os x 8)) : wpX_ones post () x :=
  pk_loop (fun n i s => wX_ones_4 post x n s (nI i)) (fun i s => s = ck_os x i) 8 0 0 (by omega) rfl
    (fun n s hs => pk_le 8 8 (fun _ => (show s = ck_os x 8 from hs) ▸ h) (fun z => absurd z (by omega)))
    (fun n i s hi hs hw => pk_le 8 i (fun z => absurd z (by omega)) (fun _ => nm_e (nm_r (nI_1 i) (hw _ (by rw [show s = ck_os x i from hs]; rfl)))))
/-- withNeighbours: the best vertex and its count, out of the counts nv of the first v vertices -/
def ck_sp (lone n : Int32) (v : Nat) (p : Int32 × Int32) : Int32 × Int32 := if lone = 0 then (if n ≤ p.2 then p else (nI v, n)) else (if n = 1 then (nI v, n) else p)
def ck_st (lone : Int32) (nv : Nat → Int32) : Nat → Int32 × Int32
  | 0 => (-1, 0)
  | v + 1 => ck_sp lone (nv v) v (ck_st lone nv v)
theorem ck_wpwn {post : Int32 → Prop} {set lone : Int32} {f : Int32} {a1 a2 a3 a4 a5 a6 a7 a8 a9 a10 : Nat → Int32} {nv : Nat → Int32} (hv : ∀ v, v < 8 → (if ck_t set v = true then ck_os (a1 v &&& set) 8 else 0) = nv v) (h : post (ck_st lone nv 8).1) : wpX_withNeighbours post (f, a1, a2, a3, a4, a5, a6, a7, a8, a9, a10) set lone := by
  refine pk_loop (fun n i s => wX_withNeighbours_8 post set lone f a1 a2 a3 a4 a5 a6 a7 a8 a9 a10 n s.1 s.2 (nI i)) (fun i s => s = ck_st lone nv i) 8 0 ((-1 : Int32), (0 : Int32)) (by omega) rfl (fun n s hs => pk_le 8 8 (fun _ => (show s = ck_st lone nv 8 from hs) ▸ h) (fun z => absurd z (by omega))) (fun n i s hi hs hw => pk_le 8 i (fun z => absurd z (by omega)) (fun _ => ?_))
  have hs' : s = ck_st lone nv i := hs
  have X : ∀ z, z = nv i → wX_withNeighbours_40 post (wX_withNeighbours_8 post set lone f a1 a2 a3 a4 a5 a6 a7 a8 a9 a10 n) set lone s.1 s.2 (nI i) z f a1 a2 a3 a4 a5 a6 a7 a8 a9 a10 := by
    intro z hz
    unfold wX_withNeighbours_40
    refine br_c (fun l0 => br_c (fun c => nm_r (nI_1 i) (hw s ?_)) (fun c => nm_r (nI_1 i) (hw (nI i, z) ?_))) (fun l1 => br_c (fun c => nm_r (nI_1 i) (hw (nI i, z) ?_)) (fun c => nm_r (nI_1 i) (hw s ?_)))
    · show s = ck_sp lone (nv i) i (ck_st lone nv i)
      rw [← hs', ← hz, ck_sp, if_pos l0, if_pos c]
    · show (nI i, z) = ck_sp lone (nv i) i (ck_st lone nv i)
      rw [← hs', ← hz, ck_sp, if_pos l0, if_neg c]
    · show (nI i, z) = ck_sp lone (nv i) i (ck_st lone nv i)
      rw [← hs', ← hz, ck_sp, if_neg l1, if_pos c]
    · show s = ck_sp lone (nv i) i (ck_st lone nv i)
      rw [← hs', ← hz, ck_sp, if_neg l1, if_neg c]
  refine ck_wpin hi (fun hb => br_t rfl (X 0 ?_)) (fun hb => br_f (by decide) ⟨pk_in i 8 hi, ck_wpones (X _ ?_)⟩)
  · rw [← hv i hi, hb]
    rfl
  · rw [nI_clamp (show i < 2 ^ 31 by omega), ← hv i hi, if_pos hb]
/-- the graph: no edge (g = false), or the edge of A and B alone -/
def ck_j (g : Bool) (A B : Nat) (j : Nat) : Int32 := if g = true ∧ j = A then ck_bit B else if g = true ∧ j = B then ck_bit A else 0
def ck_g (g : Bool) (A B : Nat) (a1 : Nat → Int32) : Prop := A < 8 ∧ B < 8 ∧ A ≠ B ∧ ∀ j, j < 8 → a1 j = ck_j g A B j
/-- the edge lies within a set -/
def ck_h (g : Bool) (A B : Nat) (s : Int32) : Bool := g && (ck_t s A && ck_t s B)
def ck_n (h : Bool) (A B : Nat) (v : Nat) : Int32 := if h = true ∧ (v = A ∨ v = B) then 1 else 0
theorem ck_jA {A B : Nat} : ck_j true A B A = ck_bit B := by unfold ck_j; rw [if_pos ⟨rfl, rfl⟩]
theorem ck_jB {A B : Nat} (h : A ≠ B) : ck_j true A B B = ck_bit A := by unfold ck_j; rw [if_neg (fun z => h z.2.symm), if_pos ⟨rfl, rfl⟩]
theorem ck_jn {g : Bool} {A B v : Nat} (h : ¬ (g = true ∧ (v = A ∨ v = B))) : ck_j g A B v = 0 := by unfold ck_j; rw [if_neg (fun z => h ⟨z.1, Or.inl z.2⟩), if_neg (fun z => h ⟨z.1, Or.inr z.2⟩)]
theorem ck_nv {g : Bool} {A B : Nat} {a1 : Nat → Int32} {set : Int32} (hg : ck_g g A B a1) : ∀ v, v < 8 → (if ck_t set v = true then ck_os (a1 v &&& set) 8 else 0) = ck_n (ck_h g A B set) A B v := by
  intro v hv
  obtain ⟨hA, hB, hn, hj⟩ := hg
  rw [hj v hv]
  unfold ck_n ck_h
  by_cases c : g = true ∧ (v = A ∨ v = B)
  · obtain ⟨rfl, rfl | rfl⟩ := c
    · rw [ck_jA, ck_band hB]
      cases ck_t set v <;> cases ck_t set B <;> simp [ck_os0, ck_osb B hB]
    · rw [ck_jB hn, ck_band hA]
      cases ck_t set v <;> cases ck_t set A <;> simp [ck_os0, ck_osb A hA]
  · rw [ck_jn c, ck_z, ck_os0, ite_self, if_neg]
    intro z
    apply c
    refine ⟨?_, z.2⟩
    revert z
    cases g <;> simp
theorem ck_st1 : ∀ h : Bool, ∀ A, A < 8 → ∀ B, B < 8 → A ≠ B → (ck_st 1 (ck_n h A B) 8).1 = if h = true then nI (max A B) else -1 := by decide +kernel
theorem ck_st0 : ∀ h : Bool, ∀ A, A < 8 → ∀ B, B < 8 → A ≠ B → (ck_st 0 (ck_n h A B) 8).1 = if h = true then nI (min A B) else -1 := by decide +kernel
/-- one round of solve, one branch waiting -/
theorem ck_rd {post : Int32 → St2 → Prop} {g : Bool} {A B n i : Nat} {x2 T S : Int32} {a1 a2 a3 a4 a5 a6 a7 a8 a9 a10 : Nat → Int32} (hg : ck_g g A B a1) (hi : i < 512) (h4 : a2 0 = S) (h5 : a3 0 = T)
    (h0 : ck_h g A B S = false → ¬ x2 ≤ T ∧ wX_solve_16 post n T (nI (i + 1)) (nI 0) a1 a2 a3 a4 a5 a6 a7 a8 a9 a10)
    (h1 : ck_h g A B S = true → ¬ x2 ≤ T + 1 ∧ wX_solve_16 post n x2 (nI (i + 1)) (nI 1) a1 (upd a2 0 (S &&& (a1 (max A B) ^^^ (-1))).toInt16.toInt32) (upd a3 0 (T + 1).toInt8.toInt32) a4 a5 a6 a7 a8 a9 a10) :
    wX_solve_16 post (n + 1) x2 (nI i) (nI 1) a1 a2 a3 a4 a5 a6 a7 a8 a9 a10 := by
  obtain ⟨hA, hB, hn, -⟩ := id hg
  refine pk_le 512 i (fun z => absurd z (by omega)) (fun _ => pk_le 1 0 (fun z => absurd z (by omega)) (fun _ => nm_r (nI_pred 0) ⟨pk_in 0 64 (by omega), nm_r (e' := S) ?_ ⟨pk_in 0 64 (by omega), nm_r (e' := T) ?_ (ck_wpwn (ck_nv hg) ?_)⟩⟩))
  · rw [nI_clamp (show 0 < 2 ^ 31 by omega)]
    exact h4
  · rw [nI_clamp (show 0 < 2 ^ 31 by omega)]
    exact h5
  · rw [ck_st1 _ A hA B hB hn]
    refine ck_wpwn (ck_nv hg) ?_
    rw [ck_st0 _ A hA B hB hn]
    cases hh : ck_h g A B S
    · obtain ⟨k1, k2⟩ := h0 hh
      exact br_f (show ¬ (0 : Int32) ≤ -1 by decide) (br_f k1 (nm_r (nI_1 i) k2))
    · obtain ⟨k1, k2⟩ := h1 hh
      refine br_t (nI_pos' (by omega)) (br_f k1 (br_f (nI_pos (by omega)) ⟨pk_in (max A B) 8 (by omega), ?_⟩))
      rw [if_pos rfl, nI_clamp (show max A B < 2 ^ 31 by omega)]
      exact ⟨pk_in 0 64 (by omega), nm_r (by rw [nI_clamp (show 0 < 2 ^ 31 by omega)]) ⟨pk_in 0 64 (by omega), nm_r (by rw [nI_clamp (show 0 < 2 ^ 31 by omega)]) (nm_r (nI_1 0) (nm_r (nI_1 i) k2))⟩⟩
theorem ck_h16 {g : Bool} {A B : Nat} (hA : A < 8) (hB : B < 8) (s : Int32) : ck_h g A B s.toInt16.toInt32 = ck_h g A B s := by
  unfold ck_h
  rw [ck_t16 s hA, ck_t16 s hB]
theorem ck_hcut {g : Bool} {A B : Nat} {a1 : Nat → Int32} (hg : ck_g g A B a1) (hh : g = true) (s : Int32) : ck_h g A B (s &&& (a1 (max A B) ^^^ (-1))) = false := by
  obtain ⟨hA, hB, hn, hj⟩ := hg
  subst hh
  rw [hj _ (by omega)]
  unfold ck_h
  rcases Nat.lt_or_ge A B with c | c
  · rw [show max A B = B by omega, ck_jB hn, ck_tand, ck_tnot _ (by omega), ck_tbit A hA A (by omega), decide_eq_true rfl]
    simp
  · rw [show max A B = A by omega, ck_jA, ck_tand s _ B, ck_tnot _ (by omega), ck_tbit B hB B (by omega), decide_eq_true rfl]
    simp
theorem ck_end {post : Int32 → St2 → Prop} {n i : Nat} {x2 : Int32} {a1 a2 a3 a4 a5 a6 a7 a8 a9 a10 : Nat → Int32} (hi : i < 512) (h : post x2 (nI 0, a1, a2, a3, a4, a5, a6, a7, a8, a9, a10)) : wX_solve_16 post (n + 1) x2 (nI i) (nI 0) a1 a2 a3 a4 a5 a6 a7 a8 a9 a10 :=
  pk_le 512 i (fun z => absurd z (by omega)) (fun _ => pk_le 0 0 (fun _ => h) (fun z => absurd z (by omega)))
theorem ck_solve {post : Int32 → St2 → Prop} {g : Bool} {A B : Nat} {set : Int32} {f : Int32} {a1 a2 a3 a4 a5 a6 a7 a8 a9 a10 : Nat → Int32} (hg : ck_g g A B a1) (h : ∀ (f' : Int32) (b2 b3 : Nat → Int32), post (ck_i (ck_h g A B set)) (f', a1, b2, b3, a4, a5, a6, a7, a8, a9, a10)) : wpX_solve post (f, a1, a2, a3, a4, a5, a6, a7, a8, a9, a10) set := by
  obtain ⟨hA, hB, hn, -⟩ := id hg
  unfold wpX_solve wpX_push
  dsimp only
  refine ⟨pk_in 0 64 (by omega), nm_r (e' := upd a2 0 set.toInt16.toInt32) rfl ⟨pk_in 0 64 (by omega), nm_r (e' := upd a3 0 0) rfl (nm_r (nI_1 0) ⟨3, ?_⟩)⟩⟩
  refine ck_rd (i := 0) hg (by omega) pk_us pk_us (fun e => ⟨by decide, ck_end (by omega) ?_⟩) (fun e => ⟨by decide, ck_rd (i := 1) hg (by omega) pk_us pk_us (fun e' => ⟨by decide, ck_end (by omega) ?_⟩) (fun e' => ?_)⟩)
  · rw [ck_h16 hA hB] at e
    have h' := h
    rw [e] at h'
    exact h' _ _ _
  · rw [ck_h16 hA hB] at e
    have h' := h
    rw [e] at h'
    exact h' _ _ _
  · rw [ck_h16 hA hB, ck_hcut hg (by revert e; unfold ck_h; cases g <;> simp)] at e'
    exact absurd e' (by decide)
theorem ck_h255 {g : Bool} {A B : Nat} (hA : A < 8) (hB : B < 8) : ck_h g A B 255 = g := by
  unfold ck_h
  rw [ck_t255 A hA, ck_t255 B hB]
  simp
theorem ck_least {post : Int32 → St2 → Prop} {g : Bool} {A B : Nat} {f : Int32} {a1 a2 a3 a4 a5 a6 a7 a8 a9 a10 : Nat → Int32} (hg : ck_g g A B a1) (h : ∀ (f' : Int32) (b2 b3 : Nat → Int32), post (ck_i g) (f', a1, b2, b3, a4, a5, a6, a7, a8, a9, a10)) : wpX_least post (f, a1, a2, a3, a4, a5, a6, a7, a8, a9, a10) := by
  unfold wpX_least
  refine ck_solve hg (fun f' b2 b3 => ?_)
  rw [ck_h255 hg.1 hg.2.1]
  exact h f' b2 b3
end
section
theorem ck_alln {post : Int32 → Prop} {f : Int32} {a1 a2 a3 a4 a5 a6 a7 a8 a9 a10 : Nat → Int32} (h : post 0) : wpX_allNeighbours post (f, a1, a2, a3, a4, a5, a6, a7, a8, a9, a10) 0 :=
  pk_loop (σ := Unit) (fun n i _ => wX_allNeighbours_4 post 0 f a1 a2 a3 a4 a5 a6 a7 a8 a9 a10 n 0 (nI i)) (fun _ _ => True) 8 0 () (by omega) trivial
    (fun n _ _ => pk_le 8 8 (fun _ => h) (fun z => absurd z (by omega)))
    (fun n i _ hi _ hw => pk_le 8 i (fun z => absurd z (by omega)) (fun _ => ck_wpin hi (fun _ => br_t rfl (nm_r (e' := 0) (by decide) (nm_r (nI_1 i) (hw () trivial)))) (fun e => absurd e (by rw [ck_t0]; decide))))
/-- all but one vertex -/
def ck_own (v : Nat) : Int32 := 255 &&& (ck_bit v ^^^ (-1))
theorem ck_own1 : ∀ v, v < 8 → ((255 &&& ((ck_bit v ||| 0) ^^^ (-1))) &&& ((0 : Int32) ^^^ (-1))) = ck_own v := by decide +kernel
theorem ck_os1 : ∀ v, v < 8 → ck_os (ck_bit v ||| 0) 8 = 1 := by decide +kernel
theorem ck_and0 : ∀ v, v < 8 → ((ck_bit v ||| 0) &&& (0 : Int32)) = 0 := by decide +kernel
theorem ck_forced {post : Int32 → St2 → Prop} {g : Bool} {A B v : Nat} {f : Int32} {a1 a2 a3 a4 a5 a6 a7 a8 a9 a10 : Nat → Int32} (hg : ck_g g A B a1) (hv : v < 8) (h : ∀ (f' : Int32) (b2 b3 : Nat → Int32), post (1 + ck_i (ck_h g A B (ck_own v))) (f', a1, b2, b3, a4, a5, a6, a7, a8, a9, a10)) : wpX_forced post (f, a1, a2, a3, a4, a5, a6, a7, a8, a9, a10) (ck_bit v) 0 := by
  unfold wpX_forced
  dsimp only
  refine ck_alln (nm_e (br_t (ck_and0 v hv) (ck_wpones ?_)))
  rw [ck_os1 v hv, ck_own1 v hv]
  exact ck_solve hg h
/-- never: what is gathered of the first v vertices -/
def ck_ns (g : Bool) (A B : Nat) (v : Nat) (x : Int32) : Int32 := if 1 + ck_i (ck_h g A B (ck_own v)) = ck_i g then x ||| 0 else x ||| ck_bit v
def ck_nev (g : Bool) (A B : Nat) : Nat → Int32
  | 0 => 0
  | v + 1 => ck_ns g A B v (ck_nev g A B v)
/-- the ends of the edge -/
def ck_e (g : Bool) (A B : Nat) : Int32 := if g = true then ck_bit A ||| ck_bit B else 0
theorem ck_nev8 : ∀ g : Bool, ∀ A, A < 8 → ∀ B, B < 8 → A ≠ B → ck_nev g A B 8 = (255 &&& (ck_e g A B ^^^ (-1))) := by decide +kernel
theorem ck_never {post : Int32 → St2 → Prop} {g : Bool} {A B : Nat} {f : Int32} {a1 a2 a3 a4 a5 a6 a7 a8 a9 a10 : Nat → Int32} (hg : ck_g g A B a1) (h : ∀ (f' : Int32) (b2 b3 : Nat → Int32), post (255 &&& (ck_e g A B ^^^ (-1))) (f', a1, b2, b3, a4, a5, a6, a7, a8, a9, a10)) : wpX_never post (f, a1, a2, a3, a4, a5, a6, a7, a8, a9, a10) := by
  obtain ⟨hA, hB, hn, -⟩ := id hg
  unfold wpX_never
  refine ck_least hg (fun f0 b2 b3 => ?_)
  refine pk_loop (fun n i (s : Int32 × Int32 × (Nat → Int32) × (Nat → Int32)) => wX_never_9 post (ck_i g) n s.1 (nI i) s.2.1 a1 s.2.2.1 s.2.2.2 a4 a5 a6 a7 a8 a9 a10) (fun i s => s.1 = ck_nev g A B i) 8 0 ((0 : Int32), f0, b2, b3) (by omega) rfl (fun n s hs => pk_le 8 8 (fun _ => ?_) (fun z => absurd z (by omega))) (fun n i s hi hs hw => pk_le 8 i (fun z => absurd z (by omega)) (fun _ => ck_forced (v := i) hg hi (fun f' c2 c3 => ?_)))
  · rw [show s.1 = ck_nev g A B 8 from hs, ck_nev8 g A hA B hB hn]
    exact h _ _ _
  · have hs' : s.1 = ck_nev g A B i := hs
    refine br_c (fun c => nm_e (nm_r (nI_1 i) (hw (s.1 ||| 0, f', c2, c3) ?_))) (fun c => nm_e (nm_r (nI_1 i) (hw (s.1 ||| ck_bit i, f', c2, c3) ?_)))
    · show s.1 ||| 0 = ck_ns g A B i (ck_nev g A B i)
      rw [← hs', ck_ns, if_pos c]
    · show s.1 ||| ck_bit i = ck_ns g A B i (ck_nev g A B i)
      rw [← hs', ck_ns, if_neg c]
end
section
/-- a chain of one pair: the right copy w gets v -/
theorem ck_change {post : St2 → Prop} {v w : Nat} {f : Int32} {a1 a2 a3 a4 a5 a6 a7 a8 a9 a10 : Nat → Int32} (hv : v < 8) (hw : w < 8) (h5 : a5 w = nI v) (h : post (f, a1, a2, a3, upd a4 w (nI v), a5, a6, a7, a8, a9, a10)) : wpX_change post (f, a1, a2, a3, a4, a5, a6, a7, a8, a9, a10) (nI w) (nI v) := by
  unfold wpX_change
  dsimp only
  refine ⟨2, pk_le 8 0 (fun z => absurd z (by omega)) (fun _ => pk_lt w 0 (fun z => absurd z (by omega)) (fun _ => ⟨pk_in w 8 hw, nm_r (e' := nI v) ?_ (br_t rfl ⟨pk_in w 8 hw, nm_r (e' := upd a4 w (nI v)) ?_ (nm_r (nI_1 0) ?_)⟩)⟩))⟩
  · rw [nI_clamp (show w < 2 ^ 31 by omega)]
    exact h5
  · rw [nI_clamp (show w < 2 ^ 31 by omega), ck_b8 v hv]
  · exact pk_le 8 1 (fun z => absurd z (by omega)) (fun _ => br_t (by decide) h)
/-- no neighbour of v among right: no partner -/
theorem ck_aug0 {post : Int32 → St2 → Prop} {v : Nat} {right : Int32} {f : Int32} {a1 a2 a3 a4 a5 a6 a7 a8 a9 a10 : Nat → Int32} (hv : v < 8) (hz : a1 v &&& right = 0) (h : ∀ b5 b6 : Nat → Int32, post 0 (f, a1, a2, a3, a4, b5, b6, a7, a8, a9, a10)) : wpX_augment post (f, a1, a2, a3, a4, a5, a6, a7, a8, a9, a10) (nI v) right := by
  unfold wpX_augment
  dsimp only
  refine nm_r (e' := upd a6 0 (nI v)) (by rw [ck_b8 v hv]) ⟨2, pk_le 1 0 (fun z => absurd z (by omega)) (fun _ => pk_lt 8 0 (fun z => absurd z (by omega)) (fun _ => ⟨pk_in 0 10 (by omega), nm_r (e' := nI v) rfl ?_⟩))⟩
  refine pk_loop (σ := Unit) (fun n i _ => wX_augment_42 post (wX_augment_16 post (nI v) right f 1) (nI v) right 0 (nI v) f n 0 1 (nI i) a1 a2 a3 a4 a5 (upd a6 0 (nI v)) a7 a8 a9 a10) (fun _ _ => True) 8 0 () (by omega) trivial
    (fun n _ _ => pk_le 8 8 (fun _ => nm_r (nI_1 0) (pk_le 1 1 (fun _ => h _ _) (fun z => absurd z (by omega)))) (fun z => absurd z (by omega)))
    (fun n i _ hi _ hw => pk_le 8 i (fun z => absurd z (by omega)) (fun _ => ⟨pk_in v 8 hv, ck_wpin hi (fun _ => br_t rfl (nm_r (nI_1 i) (hw () trivial))) (fun e => ?_)⟩))
  rw [nI_clamp (show v < 2 ^ 31 by omega), hz, ck_z, ck_t0] at e
  exact absurd e (by decide)
/-- one free neighbour w of v among right: v gets it -/
theorem ck_aug1 {post : Int32 → St2 → Prop} {v w : Nat} {right : Int32} {f : Int32} {a1 a2 a3 a4 a5 a6 a7 a8 a9 a10 : Nat → Int32} (hv : v < 8) (hw : w < 8) (hz : a1 v &&& right = ck_bit w) (h4 : a4 w = -1) (h : ∀ b5 b6 : Nat → Int32, post 1 (f, a1, a2, a3, upd a4 w (nI v), b5, b6, a7, a8, a9, a10)) : wpX_augment post (f, a1, a2, a3, a4, a5, a6, a7, a8, a9, a10) (nI v) right := by
  have hb : ∀ i, i < 8 → ck_t ((a1 v &&& right) &&& ((0 : Int32) ^^^ (-1))) i = decide (i = w) := by
    intro i hi
    rw [ck_tand, hz, ck_tbit w hw i (by omega), ck_tnot _ (by omega), ck_t0, Bool.not_false, Bool.and_true]
  unfold wpX_augment
  dsimp only
  refine nm_r (e' := upd a6 0 (nI v)) (by rw [ck_b8 v hv]) ⟨2, pk_le 1 0 (fun z => absurd z (by omega)) (fun _ => pk_lt 8 0 (fun z => absurd z (by omega)) (fun _ => ⟨pk_in 0 10 (by omega), nm_r (e' := nI v) rfl ?_⟩))⟩
  refine pk_loop (σ := Unit) (fun n i _ => wX_augment_42 post (wX_augment_16 post (nI v) right f 1) (nI v) right 0 (nI v) f n 0 1 (nI i) a1 a2 a3 a4 a5 (upd a6 0 (nI v)) a7 a8 a9 a10) (fun _ _ => True) w 0 () (by omega) trivial
    (fun n _ _ => pk_le 8 w (fun z => absurd z (by omega)) (fun _ => ⟨pk_in v 8 hv, ck_wpin hw (fun e => ?_) (fun _ => br_f (by decide) (nm_e ⟨pk_in w 8 hw, nm_r (e' := upd a5 w (nI v)) ?_ ⟨pk_in w 8 hw, br_f ?_ (ck_change hv hw pk_us (h _ _))⟩⟩))⟩))
    (fun n i _ hi _ hk => pk_le 8 i (fun z => absurd z (by omega)) (fun _ => ⟨pk_in v 8 hv, ck_wpin (by omega) (fun _ => br_t rfl (nm_r (nI_1 i) (hk () trivial))) (fun e => ?_)⟩))
  · rw [nI_clamp (show v < 2 ^ 31 by omega), hb w hw] at e
    exact absurd (of_decide_eq_false e) (fun z => z rfl)
  · rw [nI_clamp (show w < 2 ^ 31 by omega), ck_b8 v hv]
  · rw [nI_clamp (show w < 2 ^ 31 by omega), h4]
    decide
  · rw [nI_clamp (show v < 2 ^ 31 by omega), hb i (by omega)] at e
    exact absurd (of_decide_eq_true e) (by omega)
/-- match: how many of the first v vertices found a partner -/
def ck_mc (p q : Bool) (A B : Nat) : Nat → Int32
  | 0 => 0
  | v + 1 => if (p = true ∧ v = A) ∨ (q = true ∧ v = B) then ck_mc p q A B v + 1 else ck_mc p q A B v + 0
theorem ck_mc8 : ∀ p q : Bool, ∀ A, A < 8 → ∀ B, B < 8 → A ≠ B → ck_mc p q A B 8 = ck_i p + ck_i q := by decide +kernel
def ck_p (g : Bool) (A B : Nat) (l r : Int32) : Bool := g && (ck_t l A && ck_t r B)
/-- match's answer -/
def ck_m (g : Bool) (A B : Nat) (l r : Int32) : Int32 := ck_i (ck_p g A B l r) + ck_i (ck_p g B A l r)
/-- a left copy v that is looked at: its neighbours among right -/
theorem ck_cs {g : Bool} {A B v : Nat} {a1 : Nat → Int32} {l r : Int32} (hg : ck_g g A B a1) (hv : v < 8) (hl : ck_t l v = true) :
    (a1 v &&& r = 0 ∧ ¬ ((ck_p g A B l r = true ∧ v = A) ∨ (ck_p g B A l r = true ∧ v = B))) ∨ (a1 v &&& r = ck_bit B ∧ ck_p g A B l r = true ∧ v = A) ∨ (a1 v &&& r = ck_bit A ∧ ck_p g B A l r = true ∧ v = B) := by
  obtain ⟨hA, hB, hn, hj⟩ := hg
  rw [hj v hv]
  unfold ck_p
  by_cases c : g = true ∧ (v = A ∨ v = B)
  · obtain ⟨rfl, rfl | rfl⟩ := c
    · rw [ck_jA, ck_band hB, hl]
      cases ck_t r B
      · exact Or.inl ⟨rfl, by rintro (z | z); exact absurd z.1 (by decide); exact hn z.2⟩
      · exact Or.inr (Or.inl ⟨rfl, rfl, rfl⟩)
    · rw [ck_jB hn, ck_band hA, hl]
      cases ck_t r A
      · exact Or.inl ⟨rfl, by rintro (z | z); exact hn z.2.symm; exact absurd z.1 (by decide)⟩
      · exact Or.inr (Or.inr ⟨rfl, rfl, rfl⟩)
  · rw [ck_jn c, ck_z]
    refine Or.inl ⟨rfl, ?_⟩
    rintro (z | z)
    · exact c ⟨by revert z; cases g <;> simp, Or.inl z.2⟩
    · exact c ⟨by revert z; cases g <;> simp, Or.inr z.2⟩
theorem ck_m26 {post : Int32 → St2 → Prop} {g : Bool} {A B : Nat} {l r : Int32} {f : Int32} {a1 a2 a3 a4 a5 a6 a7 a8 a9 a10 : Nat → Int32} (hg : ck_g g A B a1) (h4 : ∀ j, j < 8 → a4 j = -1) (h : ∀ b4 b5 b6 : Nat → Int32, post (ck_m g A B l r) (f, a1, a2, a3, b4, b5, b6, a7, a8, a9, a10)) : ∃ n, wX_match_26 post l r n 0 0 f a1 a2 a3 a4 a5 a6 a7 a8 a9 a10 := by
  obtain ⟨hA, hB, hn, -⟩ := id hg
  refine pk_loop (fun n i (s : Int32 × (Nat → Int32) × (Nat → Int32) × (Nat → Int32)) => wX_match_26 post l r n s.1 (nI i) f a1 a2 a3 s.2.1 s.2.2.1 s.2.2.2 a7 a8 a9 a10) (fun i s => s.1 = ck_mc (ck_p g A B l r) (ck_p g B A l r) A B i ∧ (i ≤ A → s.2.1 B = -1) ∧ (i ≤ B → s.2.1 A = -1)) 8 0 ((0 : Int32), a4, a5, a6) (by omega) ⟨rfl, fun _ => h4 B hB, fun _ => h4 A hA⟩ (fun n s hs => pk_le 8 8 (fun _ => ?_) (fun z => absurd z (by omega))) (fun n i s hi hs hw => pk_le 8 i (fun z => absurd z (by omega)) (fun _ => ck_wpin hi (fun e => br_t rfl (nm_e (nm_r (nI_1 i) (hw (s.1 + 0, s.2.1, s.2.2.1, s.2.2.2) ?_)))) (fun e => br_f (by decide) ?_)))
  · rw [show s.1 = ck_mc (ck_p g A B l r) (ck_p g B A l r) A B 8 from hs.1, ck_mc8 _ _ A hA B hB hn]
    exact h _ _ _
  · obtain ⟨s1, s2, s3⟩ := hs
    refine ⟨?_, fun z => s2 (by omega), fun z => s3 (by omega)⟩
    show s.1 + 0 = ck_mc (ck_p g A B l r) (ck_p g B A l r) A B (i + 1)
    rw [ck_mc, if_neg, s1]
    rintro (⟨z, rfl⟩ | ⟨z, rfl⟩)
    · rw [ck_p, e] at z
      revert z
      cases g <;> simp
    · rw [ck_p, e] at z
      revert z
      cases g <;> simp
  · obtain ⟨s1, s2, s3⟩ := hs
    rcases ck_cs (l := l) (r := r) hg hi e with ⟨c, d⟩ | ⟨c, d, rfl⟩ | ⟨c, d, rfl⟩
    · refine ck_aug0 hi c (fun b5 b6 => br_t rfl (nm_e (nm_r (nI_1 i) (hw (s.1 + 0, s.2.1, b5, b6) ⟨?_, fun z => s2 (by omega), fun z => s3 (by omega)⟩))))
      show s.1 + 0 = ck_mc (ck_p g A B l r) (ck_p g B A l r) A B (i + 1)
      rw [ck_mc, if_neg d, s1]
    · refine ck_aug1 hi hB c (s2 (Nat.le_refl _)) (fun b5 b6 => br_f (by decide) (nm_e (nm_r (nI_1 i) (hw (s.1 + 1, upd s.2.1 B (nI i), b5, b6) ⟨?_, fun z => absurd z (by omega), fun z => ?_⟩))))
      · show s.1 + 1 = ck_mc (ck_p g i B l r) (ck_p g B i l r) i B (i + 1)
        rw [ck_mc, if_pos (Or.inl ⟨d, rfl⟩), s1]
      · show upd s.2.1 B (nI i) i = -1
        rw [pk_un hn]
        exact s3 (by omega)
    · refine ck_aug1 hi hA c (s3 (Nat.le_refl _)) (fun b5 b6 => br_f (by decide) (nm_e (nm_r (nI_1 i) (hw (s.1 + 1, upd s.2.1 A (nI i), b5, b6) ⟨?_, fun z => ?_, fun z => absurd z (by omega)⟩))))
      · show s.1 + 1 = ck_mc (ck_p g A i l r) (ck_p g i A l r) A i (i + 1)
        rw [ck_mc, if_pos (Or.inr ⟨d, rfl⟩), s1]
      · show upd s.2.1 A (nI i) i = -1
        rw [pk_un (Ne.symm hn)]
        exact s2 (by omega)
theorem ck_match {post : Int32 → St2 → Prop} {g : Bool} {A B : Nat} {l r : Int32} {f : Int32} {a1 a2 a3 a4 a5 a6 a7 a8 a9 a10 : Nat → Int32} (hg : ck_g g A B a1) (h : ∀ b4 b5 b6 : Nat → Int32, post (ck_m g A B l r) (f, a1, a2, a3, b4, b5, b6, a7, a8, a9, a10)) : wpX_match post (f, a1, a2, a3, a4, a5, a6, a7, a8, a9, a10) l r := by
  unfold wpX_match
  dsimp only
  refine pk_loop (fun n i s => wX_match_2 post l r f n (nI i) a1 a2 a3 s a5 a6 a7 a8 a9 a10) (fun i s => ∀ j, j < i → s j = -1) 8 0 a4 (by omega) (fun j hj => absurd hj (by omega)) (fun n s hs => pk_le 8 8 (fun _ => ck_m26 hg hs h) (fun z => absurd z (by omega))) (fun n i s hi hs hw => pk_le 8 i (fun z => absurd z (by omega)) (fun _ => ⟨pk_in i 8 hi, nm_r (e' := upd s i (-1)) (by rw [nI_clamp (show i < 2 ^ 31 by omega)]) (nm_r (nI_1 i) (hw _ ?_))⟩))
  intro j hj
  by_cases e : j = i
  · rw [e, pk_us]
  · rw [pk_un e]
    exact hs j (by omega)
end
section
theorem ck_isv {post : Int32 → Prop} {x : Int32} (h0 : (x < 0 ∨ 7 < x) → post 0) (h1 : ∀ j, j < 8 → x = nI j → ¬ x < 0 → ¬ 7 < x → post 1) : wpX_isVertex post () x := by
  refine br_c (fun a => h0 (Or.inl a)) (fun a => br_c (fun b => h0 (Or.inr (ck_87.mp b))) (fun b => ?_))
  rcases pk_ix x (n := 8) (by omega) with c | c | ⟨j, hj, e⟩
  · exact absurd c a
  · exact absurd c b
  · exact h1 j hj e a (fun z => b (ck_87.mpr z))
/-- the halves of the graph -/
def ck_2 (g : Bool) : Int32 := if g = true then 2 else 0
theorem ck_m255 {g : Bool} {A B : Nat} (hA : A < 8) (hB : B < 8) : ck_m g A B 255 255 = ck_2 g := by
  unfold ck_m ck_p
  rw [ck_t255 A hA, ck_t255 B hB]
  cases g <;> decide
theorem ck_halves {post : Int32 → St2 → Prop} {g : Bool} {A B : Nat} {f : Int32} {a1 a2 a3 a4 a5 a6 a7 a8 a9 a10 : Nat → Int32} (hg : ck_g g A B a1) (h : ∀ b4 b5 b6 : Nat → Int32, post (ck_2 g) (f, a1, a2, a3, b4, b5, b6, a7, a8, a9, a10)) : wpX_halves post (f, a1, a2, a3, a4, a5, a6, a7, a8, a9, a10) := by
  unfold wpX_halves
  refine ck_match hg (fun b4 b5 b6 => ?_)
  rw [ck_m255 hg.1 hg.2.1]
  exact h b4 b5 b6
def ck_far (g : Bool) (A B v : Nat) : Int32 := ck_own v &&& (ck_j g A B v ^^^ (-1))
/-- costWith's answer -/
def ck_cost (g : Bool) (A B v n : Nat) : Int32 := if n = 2 then 2 + ck_m g A B (ck_own v) (ck_own v) else if n = 1 then (1 + ck_os (ck_j g A B v) 8) + ck_m g A B (ck_far g A B v) (ck_own v) else 2 * ck_os (ck_j g A B v) 8 + ck_m g A B (ck_far g A B v) (ck_far g A B v)
def ck_chk (g : Bool) (A B v n : Nat) : Bool := A == B || ((ck_cost g A B v n == ck_2 g) == ((g && (v == A || v == B)) || n == 0))
theorem ck_chk1 : ∀ n, n < 3 → ∀ g : Bool, ∀ v, v < 8 → ∀ A, A < 8 → ∀ B, B < 8 → ck_chk g A B v n = true := by decide +kernel
theorem ck_cost2 {n : Nat} (h : n < 3) (g : Bool) {v : Nat} (hv : v < 8) {A : Nat} (hA : A < 8) {B : Nat} (hB : B < 8) (hn : A ≠ B) : ck_cost g A B v n = ck_2 g ↔ ((g = true ∧ (v = A ∨ v = B)) ∨ n = 0) := by
  have k := ck_chk1 n h g v hv A hA B hB
  unfold ck_chk at k
  rw [beq_eq_false_iff_ne.mpr hn, Bool.false_or, beq_iff_eq] at k
  rw [← beq_iff_eq (a := ck_cost g A B v n), k]
  simp
theorem ck_costw {post : Int32 → St2 → Prop} {g : Bool} {A B v n : Nat} {f : Int32} {a1 a2 a3 a4 a5 a6 a7 a8 a9 a10 : Nat → Int32} (hg : ck_g g A B a1) (hv : v < 8) (hn : n < 3) (h : ∀ b4 b5 b6 : Nat → Int32, post (ck_cost g A B v n) (f, a1, a2, a3, b4, b5, b6, a7, a8, a9, a10)) : wpX_costWith post (f, a1, a2, a3, a4, a5, a6, a7, a8, a9, a10) (nI v) (nI n) := by
  unfold wpX_costWith
  dsimp only
  rw [nI_clamp (show v < 2 ^ 31 by omega), hg.2.2.2 v hv]
  refine nm_r (e' := ck_own v) rfl ⟨pk_in v 8 hv, nm_r (e' := ck_far g A B v) rfl ⟨pk_in v 8 hv, ck_wpones ?_⟩⟩
  unfold ck_cost at h
  refine pk_eq n 2 (fun z => ck_match hg (fun b4 b5 b6 => ?_)) (fun z => pk_eq n 1 (fun y => ck_match hg (fun b4 b5 b6 => ?_)) (fun y => ck_match hg (fun b4 b5 b6 => ?_)))
  · have k := h b4 b5 b6
    rw [if_pos z] at k
    exact k
  · have k := h b4 b5 b6
    rw [if_neg z, if_pos y] at k
    exact k
  · have k := h b4 b5 b6
    rw [if_neg z, if_neg y] at k
    exact k
/-- what the law says of canHave -/
def ck_can (g : Bool) (A B : Nat) (x n : Int32) : Prop := ¬ x < 0 ∧ ¬ 7 < x ∧ ¬ n < 0 ∧ ¬ 2 < n ∧ ((g = true ∧ (x = nI A ∨ x = nI B)) ∨ n = 0)
theorem ck_canh {post : Int32 → St2 → Prop} {g : Bool} {A B : Nat} {x y : Int32} {f : Int32} {a1 a2 a3 a4 a5 a6 a7 a8 a9 a10 : Nat → Int32} (hg : ck_g g A B a1) (h : ∀ c : Bool, (c = true ↔ ck_can g A B x y) → ∀ b4 b5 b6 : Nat → Int32, post (ck_i c) (f, a1, a2, a3, b4, b5, b6, a7, a8, a9, a10)) : wpX_canHave post (f, a1, a2, a3, a4, a5, a6, a7, a8, a9, a10) x y := by
  obtain ⟨hA, hB, hn, -⟩ := id hg
  have hf : ¬ ck_can g A B x y → post 0 (f, a1, a2, a3, a4, a5, a6, a7, a8, a9, a10) := fun k => h false ⟨fun z => absurd z (by decide), fun z => absurd z k⟩ _ _ _
  unfold wpX_canHave
  dsimp only
  refine ck_isv (fun k => br_t rfl (hf (fun z => k.elim z.1 z.2.1))) (fun v hv ex k1 k2 => br_f (by decide) (br_c (fun k => hf (fun z => z.2.2.1 k)) (fun k3 => br_c (fun k4 => ?_) (fun k => hf (fun z => z.2.2.2.1 (ck_nle.mp k))))))
  obtain ⟨n, hn2, ey⟩ := nI_of2 (M := 2) (n := 2) (by decide) k3 k4
  subst ex ey
  have hc := ck_cost2 (n := n) (by omega) g hv hA hB hn
  have hk : ck_can g A B (nI v) (nI n) ↔ ((g = true ∧ (v = A ∨ v = B)) ∨ n = 0) := by
    unfold ck_can
    rw [nI_eq (by omega) (by omega), nI_eq (by omega) (by omega), ← nI_0, nI_eq (a := n) (by omega) (by omega)]
    exact ⟨fun z => z.2.2.2.2, fun z => ⟨by rw [nI_0]; exact k1, k2, by rw [nI_0]; exact k3, fun w => ck_nle.mpr w k4, z⟩⟩
  refine ck_halves hg (fun b4 b5 b6 => ck_costw hg hv (by omega) (fun c4 c5 c6 => br_c (fun c => h true ⟨fun _ => hk.mpr (hc.mp c), fun _ => rfl⟩ _ _ _) (fun c => h false ⟨fun z => absurd z (by decide), fun z => absurd (hc.mpr (hk.mp z)) c⟩ _ _ _)))
/-- what isCover answers -/
def ck_cov (g : Bool) (A B : Nat) (s : Int32) : Prop := ¬ (g = true ∧ ck_t s A = false ∧ ck_t s B = false)
theorem ck_isc {post : Int32 → Prop} {g : Bool} {A B : Nat} {s : Int32} {f : Int32} {a1 a2 a3 a4 a5 a6 a7 a8 a9 a10 : Nat → Int32} (hg : ck_g g A B a1) (h1 : ck_cov g A B s → post 1) (h0 : ¬ ck_cov g A B s → post 0) : wpX_isCover post (f, a1, a2, a3, a4, a5, a6, a7, a8, a9, a10) s := by
  obtain ⟨hA, hB, hn, hj⟩ := id hg
  unfold wpX_isCover
  dsimp only
  refine pk_loop (σ := Unit) (fun n i _ => wX_isCover_2 post s f a1 a2 a3 a4 a5 a6 a7 a8 a9 a10 n (nI i)) (fun i _ => ¬ ck_cov g A B s → i ≤ A ∧ i ≤ B) 8 0 () (by omega) (fun _ => ⟨by omega, by omega⟩) (fun n _ hs => pk_le 8 8 (fun _ => ?_) (fun z => absurd z (by omega))) (fun n i _ hi hs hw => pk_le 8 i (fun z => absurd z (by omega)) (fun _ => ck_wpin hi (fun e => br_t rfl ⟨pk_in i 8 hi, ?_⟩) (fun e => br_f (by decide) (nm_r (nI_1 i) (hw () ?_)))))
  · by_cases c : ck_cov g A B s
    · exact h1 c
    · have := hs c
      omega
  · rw [nI_clamp (show i < 2 ^ 31 by omega), hj i hi]
    by_cases c : g = true ∧ (i = A ∨ i = B)
    · obtain ⟨rfl, rfl | rfl⟩ := c
      · rw [ck_jA, ck_band hB, ck_tnot _ (by omega)]
        cases q : ck_t s B
        · exact br_f (ck_bne B hB) (h0 (fun z => z ⟨rfl, e, q⟩))
        · exact br_t rfl (nm_r (nI_1 i) (hw () (fun z => absurd (fun w => absurd (q.symm.trans w.2.2) (by decide)) z)))
      · rw [ck_jB hn, ck_band hA, ck_tnot _ (by omega)]
        cases q : ck_t s A
        · exact br_f (ck_bne A hA) (h0 (fun z => z ⟨rfl, q, e⟩))
        · exact br_t rfl (nm_r (nI_1 i) (hw () (fun z => absurd (fun w => absurd (q.symm.trans w.2.1) (by decide)) z)))
    · rw [ck_jn c, ck_z]
      refine br_t rfl (nm_r (nI_1 i) (hw () (fun z => ?_)))
      have k : i ≤ A ∧ i ≤ B := hs z
      have hgt : g = true := by
        cases g
        · exact absurd (fun w => absurd w.1 (by decide)) z
        · rfl
      have c1 : i ≠ A := fun w => c ⟨hgt, Or.inl w⟩
      have c2 : i ≠ B := fun w => c ⟨hgt, Or.inr w⟩
      omega
  · intro z
    have k : i ≤ A ∧ i ≤ B := hs z
    have c1 : i ≠ A := fun w => z (fun y => absurd (e.symm.trans (w ▸ y.2.1)) (by decide))
    have c2 : i ≠ B := fun w => z (fun y => absurd (e.symm.trans (w ▸ y.2.2)) (by decide))
    omega
theorem ck_covers {post : Int32 → Prop} {g : Bool} {A B : Nat} {s : Int32} {f : Int32} {a1 a2 a3 a4 a5 a6 a7 a8 a9 a10 : Nat → Int32} (hg : ck_g g A B a1) (h : ∀ c : Bool, (c = true ↔ (¬ s < 0 ∧ ¬ 255 < s ∧ ck_cov g A B s)) → post (ck_i c)) : wpX_covers post (f, a1, a2, a3, a4, a5, a6, a7, a8, a9, a10) s := by
  unfold wpX_covers
  dsimp only
  have hf : ¬ (¬ s < 0 ∧ ¬ 255 < s ∧ ck_cov g A B s) → post 0 := fun k => h false ⟨fun z => absurd z (by decide), fun z => absurd z k⟩
  exact br_c (fun k => hf (fun z => z.1 k)) (fun k1 => br_c (fun k => hf (fun z => z.2.1 k)) (fun k2 => ck_isc hg (fun c => br_f (by decide) (h true ⟨fun _ => ⟨k1, k2, c⟩, fun _ => rfl⟩)) (fun c => br_t rfl (hf (fun z => c z.2.2)))))
/-- the law's good -/
def ck_good (x y : Int32) : Prop := ¬ x < 0 ∧ ¬ 7 < x ∧ ¬ y < 0 ∧ ¬ 7 < y ∧ ¬ x = y
theorem ck_join {post : Int32 → St2 → Prop} {x y : Int32} {f : Int32} {a1 a2 a3 a4 a5 a6 a7 a8 a9 a10 : Nat → Int32} (h0 : ∀ j, a1 j = 0) (h : ∀ (g : Bool) (A B : Nat) (b1 : Nat → Int32), (g = true ↔ ck_good x y) → (g = true → x = nI A ∧ y = nI B) → ck_g g A B b1 → post (ck_i g) (f, b1, a2, a3, a4, a5, a6, a7, a8, a9, a10)) : wpX_join post (f, a1, a2, a3, a4, a5, a6, a7, a8, a9, a10) x y 1 := by
  have hf : ¬ ck_good x y → post 0 (f, a1, a2, a3, a4, a5, a6, a7, a8, a9, a10) := fun k => h false 0 1 a1 ⟨fun z => absurd z (by decide), fun z => absurd z k⟩ (fun z => absurd z (by decide)) ⟨by omega, by omega, by omega, fun j _ => by rw [h0 j, ck_jn (fun z => absurd z.1 (by decide))]⟩
  unfold wpX_join
  dsimp only
  refine ck_isv (fun k => br_t rfl (hf (fun z => k.elim z.1 z.2.1))) (fun A hA ex k1 k2 => br_f (by decide) (ck_isv (fun k => br_t rfl (hf (fun z => k.elim z.2.2.1 z.2.2.2.1))) (fun B hB ey k3 k4 => br_f (by decide) (br_c (fun k => hf (fun z => z.2.2.2.2 k)) (fun k5 => br_f (by decide) ?_)))))
  subst ex ey
  have hn : A ≠ B := fun z => k5 (by rw [z])
  refine ⟨pk_in A 8 hA, ?_⟩
  unfold wX_join_55
  rw [nI_clamp (show A < 2 ^ 31 by omega), nI_clamp (show B < 2 ^ 31 by omega), h0 A]
  refine ⟨pk_in A 8 hA, nm_r (e' := upd a1 A (ck_bit B)) (congrArg (upd a1 A) (ck_b16 B hB)) (br_f (by decide) ⟨pk_in B 8 hB, pk_in B 8 hB, nm_r (e' := upd (upd a1 A (ck_bit B)) B (ck_bit A)) ?_ ?_⟩)⟩
  · rw [pk_un (Ne.symm hn), h0 B]
    exact congrArg (upd (upd a1 A (ck_bit B)) B) (ck_b16 A hA)
  · refine h true A B _ ⟨fun _ => ⟨k1, k2, k3, k4, k5⟩, fun _ => rfl⟩ (fun _ => ⟨rfl, rfl⟩) ⟨hA, hB, hn, fun j _ => ?_⟩
    by_cases b : j = B
    · rw [b, pk_us, ck_jB hn]
    · rw [pk_un b]
      by_cases a : j = A
      · rw [a, pk_us, ck_jA]
      · rw [pk_un a, h0 j, ck_jn (fun z => z.2.elim a b)]
end
section
theorem ck_bool (P : Prop) : ∃ b : Bool, b = true ↔ P := by
  by_cases c : P
  · exact ⟨true, fun _ => c, fun _ => rfl⟩
  · exact ⟨false, fun z => absurd z (by decide), fun z => absurd z c⟩
theorem ck_f {b : Bool} {P : Prop} (h : b = true ↔ P) (n : ¬ P) : b = false := by
  cases b
  · rfl
  · exact absurd (h.mp rfl) n
/-- the law's last checks: all that is compared is equal -/
theorem ck_fin {post : Int32 → St0 → Prop} {mc ms kc ks : Nat} {x0 x1 x2 x3 x4 : Int32} {g c d : Bool} {A B : Nat} (hA : A < 8) (hB : B < 8) (hAB : g = true → x0 = nI A ∧ x1 = nI B)
    (hc : c = true ↔ (¬ x2 < 0 ∧ ¬ 255 < x2 ∧ ck_cov g A B x2)) (hd : d = true ↔ ck_can g A B x3 x4) (hp : post 1 ()) :
    wL_lawOf_88 post mc ms x0 x1 x2 x3 x4 (ck_i g) (ck_i c) (ck_i g) (ck_2 g) (ck_i d) (255 &&& (ck_e g A B ^^^ (-1))) (ck_i g) kc ks := by
  have F262 : ∀ z, z = ck_i d → wL_lawOf_262 post mc ms (255 &&& (ck_e g A B ^^^ (-1))) (ck_e g A B) z (ck_i d) kc ks := by
    intro z hz
    subst hz
    exact br_t rfl (br_t rfl hp)
  have F226 : ∀ en iv : Bool, (en = true ↔ (g = true ∧ (x3 = x0 ∨ x3 = x1))) → (iv = true ↔ (¬ x3 < 0 ∧ ¬ 7 < x3)) → ∀ z, z = ck_2 g → wL_lawOf_226 post mc ms x4 (ck_i d) (255 &&& (ck_e g A B ^^^ (-1))) (ck_i en) (ck_i iv) (ck_e g A B) z (ck_2 g) kc ks := by
    intro en iv he hi z hz
    subst hz
    have he' : en = true ↔ (g = true ∧ (x3 = nI A ∨ x3 = nI B)) := by
      rw [he]
      constructor
      · rintro ⟨k, w⟩
        obtain ⟨e0, e1⟩ := hAB k
        rw [e0, e1] at w
        exact ⟨k, w⟩
      · rintro ⟨k, w⟩
        obtain ⟨e0, e1⟩ := hAB k
        rw [e0, e1]
        exact ⟨k, w⟩
    have N : ¬ ck_can g A B x3 x4 → wL_lawOf_261 post mc ms (255 &&& (ck_e g A B ^^^ (-1))) (ck_e g A B) (ck_i d) kc ks := fun k => F262 0 (by rw [ck_f hd k]; rfl)
    have Y : ck_can g A B x3 x4 → wL_lawOf_257 post mc ms (255 &&& (ck_e g A B ^^^ (-1))) (ck_e g A B) (ck_i d) kc ks := fun k => F262 1 (by rw [hd.mpr k]; rfl)
    refine br_t rfl (ek_if ck_i0 (fun k => N (fun w => absurd (hi.mpr ⟨w.1, w.2.1⟩) (by rw [k]; decide))) (fun k => ?_))
    have k' := hi.mp (ck_bt k)
    refine br_c (fun q => N (fun w => w.2.2.1 q)) (fun q1 => br_c (fun q => N (fun w => w.2.2.2.1 q)) (fun q2 => ek_if ck_i0 (fun q => ?_) (fun q => ?_)))
    · exact br_c (fun r => Y ⟨k'.1, k'.2, q1, q2, Or.inr r⟩) (fun r => N (fun w => w.2.2.2.2.elim (fun u => absurd (he'.mpr u) (by rw [q]; decide)) r))
    · exact Y ⟨k'.1, k'.2, q1, q2, Or.inl (he'.mp (ck_bt q))⟩
  have F211 : ∀ en iv : Bool, (en = true ↔ (g = true ∧ (x3 = x0 ∨ x3 = x1))) → (iv = true ↔ (¬ x3 < 0 ∧ ¬ 7 < x3)) → ∀ z, z = ck_i g → wL_lawOf_211 post mc ms x4 (ck_2 g) (ck_i d) (255 &&& (ck_e g A B ^^^ (-1))) (ck_i g) (ck_i en) (ck_i iv) (ck_e g A B) z (ck_i g) kc ks := by
    intro en iv he hi z hz
    subst hz
    exact br_t rfl (ek_if ck_i0 (fun k => F226 en iv he hi 0 (by rw [k]; rfl)) (fun k => F226 en iv he hi 2 (by rw [ck_bt k]; rfl)))
  have F196 : ∀ en iv : Bool, (en = true ↔ (g = true ∧ (x3 = x0 ∨ x3 = x1))) → (iv = true ↔ (¬ x3 < 0 ∧ ¬ 7 < x3)) → ∀ z, z = ck_i c → wL_lawOf_196 post mc ms x4 (ck_i g) (ck_2 g) (ck_i d) (255 &&& (ck_e g A B ^^^ (-1))) (ck_i g) (ck_i en) (ck_i iv) (ck_e g A B) z (ck_i c) kc ks := by
    intro en iv he hi z hz
    subst hz
    exact br_t rfl (ek_if ck_i0 (fun k => F211 en iv he hi 0 (by rw [k]; rfl)) (fun k => F211 en iv he hi 1 (by rw [ck_bt k]; rfl)))
  have F163 : ∀ is en iv : Bool, (is = true ↔ (¬ x2 < 0 ∧ ¬ 255 < x2)) → (en = true ↔ (g = true ∧ (x3 = x0 ∨ x3 = x1))) → (iv = true ↔ (¬ x3 < 0 ∧ ¬ 7 < x3)) → wL_lawOf_163 post mc ms x2 x4 (ck_i g) (ck_i c) (ck_i g) (ck_2 g) (ck_i d) (255 &&& (ck_e g A B ^^^ (-1))) (ck_i g) (ck_i is) (ck_i en) (ck_i iv) (ck_e g A B) kc ks := by
    intro is en iv hs he hi
    have N : c = false → wL_lawOf_195 post mc ms x4 (ck_i g) (ck_2 g) (ck_i d) (255 &&& (ck_e g A B ^^^ (-1))) (ck_i g) (ck_i en) (ck_i iv) (ck_e g A B) (ck_i c) kc ks := fun k => F196 en iv he hi 0 (by rw [k]; rfl)
    have Y : c = true → wL_lawOf_191 post mc ms x4 (ck_i g) (ck_2 g) (ck_i d) (255 &&& (ck_e g A B ^^^ (-1))) (ck_i g) (ck_i en) (ck_i iv) (ck_e g A B) (ck_i c) kc ks := fun k => F196 en iv he hi 1 (by rw [k]; rfl)
    refine br_t rfl (ek_if ck_i0 (fun k => N (ck_f hc (fun w => absurd (hs.mpr ⟨w.1, w.2.1⟩) (by rw [k]; decide)))) (fun k => ?_))
    have k' := hs.mp (ck_bt k)
    refine ek_if ck_i0 (fun q => Y (hc.mpr ⟨k'.1, k'.2, fun w => absurd w.1 (by rw [q]; decide)⟩)) (fun q => ?_)
    have q' := ck_bt q
    have E : ck_e g A B = (ck_bit A ||| ck_bit B) := by rw [ck_e, if_pos q']
    refine ek_if (d := ck_t x2 A = false ∧ ck_t x2 B = false) (by rw [E]; exact ck_ends hA hB x2) (fun w => N (ck_f hc (fun u => u.2.2 ⟨q', w.1, w.2⟩))) (fun w => Y (hc.mpr ⟨k'.1, k'.2, fun u => w u.2⟩))
  have F145 : ∀ is en iv : Bool, (is = true ↔ (¬ x2 < 0 ∧ ¬ 255 < x2)) → (en = true ↔ (g = true ∧ (x3 = x0 ∨ x3 = x1))) → (iv = true ↔ (¬ x3 < 0 ∧ ¬ 7 < x3)) → wL_lawOf_145 post mc ms x0 x1 x2 x4 (ck_i g) (ck_i c) (ck_i g) (ck_2 g) (ck_i d) (255 &&& (ck_e g A B ^^^ (-1))) (ck_i g) (ck_i is) (ck_i en) (ck_i iv) kc ks := by
    intro is en iv hs he hi
    have X := F163 is en iv hs he hi
    unfold wL_lawOf_145
    refine ek_if ck_i0 (fun k => ?_) (fun k => ?_)
    · have E : ck_e g A B = 0 := by rw [ck_e, k]; rfl
      rw [E] at X ⊢
      exact X
    · have k' := ck_bt k
      obtain ⟨e0, e1⟩ := hAB k'
      have E : (((1 : Int32) <<< (x0 &&& 31)) ||| ((1 : Int32) <<< (x1 &&& 31))) = ck_e g A B := by
        rw [ck_e, if_pos k', e0, e1]
        rfl
      rw [E]
      exact X
  have F128 : ∀ is en : Bool, (is = true ↔ (¬ x2 < 0 ∧ ¬ 255 < x2)) → (en = true ↔ (g = true ∧ (x3 = x0 ∨ x3 = x1))) → wL_lawOf_128 post mc ms x0 x1 x2 x3 x4 (ck_i g) (ck_i c) (ck_i g) (ck_2 g) (ck_i d) (255 &&& (ck_e g A B ^^^ (-1))) (ck_i g) (ck_i is) (ck_i en) kc ks := by
    intro is en hs he
    exact br_c (fun k => F145 is en false hs he ⟨fun z => absurd z (by decide), fun z => absurd k z.1⟩) (fun k1 => br_c (fun k => F145 is en false hs he ⟨fun z => absurd z (by decide), fun z => absurd k z.2⟩) (fun k2 => F145 is en true hs he ⟨fun _ => ⟨k1, k2⟩, fun _ => rfl⟩))
  have F106 : ∀ is : Bool, (is = true ↔ (¬ x2 < 0 ∧ ¬ 255 < x2)) → wL_lawOf_106 post mc ms x0 x1 x2 x3 x4 (ck_i g) (ck_i c) (ck_i g) (ck_2 g) (ck_i d) (255 &&& (ck_e g A B ^^^ (-1))) (ck_i g) (ck_i is) kc ks := by
    intro is hs
    have N : ¬ (g = true ∧ (x3 = x0 ∨ x3 = x1)) → wL_lawOf_127 post mc ms x0 x1 x2 x3 x4 (ck_i g) (ck_i c) (ck_i g) (ck_2 g) (ck_i d) (255 &&& (ck_e g A B ^^^ (-1))) (ck_i g) (ck_i is) kc ks := fun k => F128 is false hs ⟨fun z => absurd z (by decide), fun z => absurd z k⟩
    have Y : (g = true ∧ (x3 = x0 ∨ x3 = x1)) → wL_lawOf_123 post mc ms x0 x1 x2 x3 x4 (ck_i g) (ck_i c) (ck_i g) (ck_2 g) (ck_i d) (255 &&& (ck_e g A B ^^^ (-1))) (ck_i g) (ck_i is) kc ks := fun k => F128 is true hs ⟨fun _ => k, fun _ => rfl⟩
    refine ek_if ck_i0 (fun k => N (fun w => absurd w.1 (by rw [k]; decide))) (fun k => ?_)
    have k' := ck_bt k
    exact br_c (fun q => Y ⟨k', Or.inl q⟩) (fun q1 => br_c (fun q => Y ⟨k', Or.inr q⟩) (fun q2 => N (fun w => w.2.elim q1 q2)))
  exact br_c (fun k => F106 false ⟨fun z => absurd z (by decide), fun z => absurd k z.1⟩) (fun k1 => br_c (fun k => F106 false ⟨fun z => absurd z (by decide), fun z => absurd k z.2⟩) (fun k2 => F106 true ⟨fun _ => ⟨k1, k2⟩, fun _ => rfl⟩))
theorem ck_good2 {post : Int32 → St0 → Prop} {mc ms kc ks : Nat} {x0 x1 x2 x3 x4 : Int32} {g c d : Bool} {A B : Nat} (hA : A < 8) (hB : B < 8) (hG : g = true ↔ ck_good x0 x1) (hAB : g = true → x0 = nI A ∧ x1 = nI B)
    (hc : c = true ↔ (¬ x2 < 0 ∧ ¬ 255 < x2 ∧ ck_cov g A B x2)) (hd : d = true ↔ ck_can g A B x3 x4) (hp : post 1 ()) :
    (¬ ck_good x0 x1 → wL_lawOf_87 post mc ms x0 x1 x2 x3 x4 (ck_i g) (ck_i c) (ck_i g) (ck_2 g) (ck_i d) (255 &&& (ck_e g A B ^^^ (-1))) kc ks) ∧
    (ck_good x0 x1 → wL_lawOf_88 post mc ms x0 x1 x2 x3 x4 (ck_i g) (ck_i c) (ck_i g) (ck_2 g) (ck_i d) (255 &&& (ck_e g A B ^^^ (-1))) 1 kc ks) := by
  have X := ck_fin (post := post) (mc := mc) (ms := ms) (kc := kc) (ks := ks) hA hB hAB hc hd hp
  constructor
  · intro k
    have e := ck_f hG k
    subst e
    exact X
  · intro k
    have e := hG.mpr k
    subst e
    exact X
theorem ck_lawof {post : Int32 → St0 → Prop} {x0 x1 x2 x3 x4 : Int32} (hp : post 1 ()) : wpL_lawOf post 138 2192 () x0 x1 x2 x3 x4 := by
  unfold wpL_lawOf wpX_init
  refine ⟨by omega, by omega, 10, 610, by omega, by omega, ?_⟩
  refine ⟨by omega, by omega, by omega, by omega, by omega, by omega, by omega, by omega, by omega, by omega, by omega, by omega, by omega, by omega, by omega, by omega, by omega, by omega, by omega, by omega, ?_⟩
  refine ck_join (fun _ => rfl) (fun g A B b1 hG hAB hg => ck_covers hg (fun c hc => ck_least hg (fun f1 b2 b3 => ck_halves hg (fun b4 b5 b6 => ck_canh hg (fun d hd c4 c5 c6 => ck_never hg (fun f2 c2 c3 => ?_))))))
  obtain ⟨N, Y⟩ := ck_good2 (post := post) (mc := 138) (ms := 2192) (kc := 1 + 10) (ks := 11 + 610) hg.1 hg.2.1 hG hAB hc hd hp
  exact br_c (fun k => N (fun w => w.1 k)) (fun k1 => br_c (fun k => N (fun w => w.2.1 k)) (fun k2 => br_c (fun k => N (fun w => w.2.2.1 k)) (fun k3 => br_c (fun k => N (fun w => w.2.2.2.1 k)) (fun k4 => br_c (fun k => N (fun w => w.2.2.2.2 k)) (fun k5 => Y ⟨k1, k2, k3, k4, k5⟩)))))
theorem ck_cell {post : Int32 → Prop} {L : Nat} {xs : Nat → Int32} {k : Nat} (hL : L ≤ 5) (hk : k < 5) (h : ∀ x, post x) : wpL_cellAt post L xs () (nI k) :=
  pk_le L k (fun _ => h 0) (fun z => ⟨pk_in k L z, h _⟩)
theorem i_vc (xs : Nat → Int32) (L : Nat) (hL : L ≤ 5) : wpL_law (fun r => r = 1) L xs := by
  unfold wpL_law
  exact ck_cell (k := 0) hL (by omega) (fun x0 => ck_cell (k := 1) hL (by omega) (fun x1 => ck_cell (k := 2) hL (by omega) (fun x2 => ck_cell (k := 3) hL (by omega) (fun x3 => ck_cell (k := 4) hL (by omega) (fun x4 => ⟨138, 2192, by omega, by omega, ck_lawof rfl⟩)))))
end
