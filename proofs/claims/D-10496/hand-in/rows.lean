section
/-! masks below 32 as naturals; a subset is a &&& b = a -/
theorem fr_shl : ∀ s, s < 6 → (1 : Int32) <<< (nI s &&& 31) = nI (2 ^ s) := by decide +kernel
theorem fr_bit : ∀ m, m < 32 → ∀ s, s < 5 → (((nI m >>> (nI s &&& 31)) &&& 1) = 1 ↔ m.testBit s = true) := by decide +kernel
theorem fr_sub : ∀ a, a < 32 → ∀ b, b < 32 → ((nI a &&& (nI b ^^^ (-1))) = 0 ↔ a &&& b = a) := by decide +kernel
theorem fr_half : ∀ k, k < 10 → nI k >>> ((1 : Int32) &&& 31) = nI (k / 2) ∧ nI k &&& 1 = nI (k % 2) := by decide +kernel
theorem fr_dv : ∀ e, e < 18 → nI e / 3 - 1 = if 3 ≤ e then nI (e / 3 - 1) else -1 := by decide +kernel
theorem fr_md : ∀ e, e < 18 → nI e - nI e / 3 * 3 - 1 = if e % 3 = 0 then -1 else nI (e % 3 - 1) := by decide +kernel
theorem fr_fullE : ∀ n, n < 6 → ∀ m, m < 2 ^ n → (2 ^ n - 1) &&& m = 2 ^ n - 1 → m = 2 ^ n - 1 := by decide +kernel
theorem fr_pw : ∀ n, n < 6 → 2 ^ n ≤ 32 := by decide +kernel
theorem fr_and (a b : Nat) : nI a &&& nI b = nI (a &&& b) := by
  apply Int32.toBitVec_inj.1
  show BitVec.ofNat 32 a &&& BitVec.ofNat 32 b = BitVec.ofNat 32 (a &&& b)
  apply BitVec.eq_of_getLsbD_eq
  intro i hi
  simp [hi]
theorem fr_or (a b : Nat) : nI a ||| nI b = nI (a ||| b) := by
  apply Int32.toBitVec_inj.1
  show BitVec.ofNat 32 a ||| BitVec.ofNat 32 b = BitVec.ofNat 32 (a ||| b)
  apply BitVec.eq_of_getLsbD_eq
  intro i hi
  simp [hi]
theorem fr_2 (s x : Nat) : (2 : Int32) * nI s + nI x = nI (2 * s + x) := by
  rw [show (2 : Int32) = nI 2 from rfl, pk_mul, nI_add]
theorem fr_5 (s x : Nat) : (5 : Int32) * nI s + nI x = nI (5 * s + x) := by
  rw [show (5 : Int32) = nI 5 from rfl, pk_mul, nI_add]
theorem fr_nm {j : Nat} (h : j < 2 ^ 31) : ¬ nI j = -1 := fun e => nI_pos h (by rw [e]; decide)
theorem fr_m1 {L : Nat} (h : 1 ≤ L) : nI L - 1 = nI (L - 1) := pk_sub h
theorem fr_le {a b : Nat} : a &&& b = a ↔ ∀ i, a.testBit i = true → b.testBit i = true := by
  constructor
  · intro h i hi
    rw [← h, Nat.testBit_and, Bool.and_eq_true] at hi
    exact hi.2
  · intro h
    apply Nat.eq_of_testBit_eq
    intro i
    rw [Nat.testBit_and]
    cases ha : a.testBit i with
    | false => rfl
    | true => rw [h i ha]; rfl
theorem fr_leT {a b c : Nat} (h : a &&& b = a) (g : b &&& c = b) : a &&& c = a :=
  fr_le.mpr (fun i hi => fr_le.mp g i (fr_le.mp h i hi))
theorem fr_leL {a b : Nat} (c : Nat) (h : a &&& b = a) : a &&& (b ||| c) = a :=
  fr_le.mpr (fun i hi => by rw [Nat.testBit_or, fr_le.mp h i hi]; rfl)
theorem fr_leR {a c : Nat} (b : Nat) (h : a &&& c = a) : a &&& (b ||| c) = a :=
  fr_le.mpr (fun i hi => by rw [Nat.testBit_or, fr_le.mp h i hi, Bool.or_true])
theorem fr_leO {a b c : Nat} (h : a &&& c = a) (g : b &&& c = b) : (a ||| b) &&& c = a ||| b :=
  fr_le.mpr (fun i hi => by
    rw [Nat.testBit_or, Bool.or_eq_true] at hi
    rcases hi with hi | hi
    · exact fr_le.mp h i hi
    · exact fr_le.mp g i hi)
theorem fr_leS (a : Nat) : a &&& a = a := fr_le.mpr (fun _ h => h)
theorem fr_leE {a b : Nat} (h : a &&& b = a) (g : b &&& a = b) : a = b := by
  rw [← h, Nat.and_comm, g]
theorem fr_orLt {a b n : Nat} (h : a < 2 ^ n) (g : b < 2 ^ n) : a ||| b < 2 ^ n := Nat.or_lt_two_pow h g
theorem fr_pwLt {t n : Nat} (h : t < n) : 2 ^ t < 2 ^ n := Nat.pow_lt_pow_right (by omega) h
theorem fr_tbPow {t i : Nat} : (2 ^ t).testBit i = true ↔ t = i := by
  rw [Nat.testBit_two_pow, decide_eq_true_iff]
/-- unions of the first j sets -/
def fr_un (C : Nat → Nat) : Nat → Nat
  | 0 => 0
  | j + 1 => fr_un C j ||| C j
theorem fr_unC {C D : Nat → Nat} : ∀ j, (∀ i, i < j → C i = D i) → fr_un C j = fr_un D j
  | 0, _ => rfl
  | j + 1, h => by
    show fr_un C j ||| C j = fr_un D j ||| D j
    rw [fr_unC j (fun i hi => h i (by omega)), h j (by omega)]
theorem fr_unLt {C : Nat → Nat} {n : Nat} : ∀ j, (∀ i, i < j → C i < 2 ^ n) → fr_un C j < 2 ^ n
  | 0, _ => Nat.two_pow_pos n
  | j + 1, h => fr_orLt (fr_unLt j (fun i hi => h i (by omega))) (h j (by omega))
theorem fr_unIn {C : Nat → Nat} {i : Nat} : ∀ j, i < j → C i &&& fr_un C j = C i
  | 0, h => absurd h (by omega)
  | j + 1, h => by
    show C i &&& (fr_un C j ||| C j) = C i
    by_cases e : i = j
    · subst e
      exact fr_leR _ (fr_leS _)
    · exact fr_leL _ (fr_unIn j (by omega))
theorem fr_unLe {C : Nat → Nat} {m : Nat} : ∀ j, (∀ i, i < j → C i &&& m = C i) → fr_un C j &&& m = fr_un C j
  | 0, _ => Nat.zero_and m
  | j + 1, h => fr_leO (fr_unLe j (fun i hi => h i (by omega))) (h j (by omega))
theorem fr_unP : ∀ n, n < 6 → fr_un (fun i => 2 ^ i) n = 2 ^ n - 1 := by decide +kernel
theorem fr_dvs {n s t : Nat} (ht : t < n) : (s * n + t) / n = s := by
  rw [Nat.mul_comm, Nat.mul_add_div (by omega), Nat.div_eq_of_lt ht, Nat.add_zero]
theorem fr_mds {n s t : Nat} (ht : t < n) : (s * n + t) % n = t := by
  rw [Nat.mul_comm, Nat.mul_add_mod, Nat.mod_eq_of_lt ht]
theorem fr_ix {n s t : Nat} (hs : s < n) (ht : t < n) : s * n + t < n * n := by
  have h := Nat.mul_le_mul_right n (Nat.succ_le_of_lt hs)
  rw [Nat.succ_mul] at h
  omega
theorem fr_uq {n s t s' t' : Nat} (ht : t < n) (ht' : t' < n) (h : s * n + t = s' * n + t') : s = s' ∧ t = t' := by
  constructor
  · rw [← fr_dvs (s := s) ht, ← fr_dvs (s := s') ht', h]
  · rw [← fr_mds (s := s) ht, ← fr_mds (s := s') ht', h]
/-- a counter below n * n as a pair -/
theorem fr_pair {n k : Nat} (h : k < n * n) : ∃ s t, s < n ∧ t < n ∧ k = s * n + t ∧ k / n = s ∧ k % n = t := by
  have hn : 0 < n := by
    rcases Nat.eq_zero_or_pos n with z | z
    · subst z
      omega
    · exact z
  refine ⟨k / n, k % n, Nat.div_lt_of_lt_mul h, Nat.mod_lt _ hn, ?_, rfl, rfl⟩
  rw [Nat.mul_comm]
  exact (Nat.div_add_mod k n).symm
end
section
/-! one entry, one pair, one image -/
/-- the entries: a1 holds E -/
def fr_B (n : Nat) (E : Nat → Nat) (a1 : Nat → Int32) : Prop := ∀ j, j < 10 → E j < 3 * (n + 1) ∧ a1 j = nI (E j)
theorem fr_next {post : Int32 → Prop} {n : Nat} {E : Nat → Nat} {nn sc lc cc cu st ic : Int32} {a1 a2 a3 a4 a5 a6 a7 a8 a9 a10 : Nat → Int32} (hn : n ≤ 5) (hB : fr_B n E a1) {s x : Nat} (hs : s < 5) (hx : x < 2)
    (h0 : E (2 * s + x) < 3 → post (-1)) (h1 : 3 ≤ E (2 * s + x) → post (nI (E (2 * s + x) / 3 - 1))) : wpX_next post (nn, sc, lc, cc, cu, st, ic, a1, a2, a3, a4, a5, a6, a7, a8, a9, a10) (nI s) (nI x) := by
  obtain ⟨hE, ha⟩ := hB (2 * s + x) (by omega)
  refine And.intro (by rw [fr_2]; exact vp_in_nI (by omega) (by omega)) (And.intro (by decide) ?_)
  show post (a1 ((2 : Int32) * nI s + nI x).toNatClampNeg / 3 - 1)
  rw [fr_2, nI_clamp (by omega), ha, fr_dv _ (by omega)]
  by_cases g : 3 ≤ E (2 * s + x)
  · rw [if_pos g]
    exact h1 g
  · rw [if_neg g]
    exact h0 (by omega)
theorem fr_output {post : Int32 → Prop} {n : Nat} {E : Nat → Nat} {nn sc lc cc cu st ic : Int32} {a1 a2 a3 a4 a5 a6 a7 a8 a9 a10 : Nat → Int32} (hn : n ≤ 5) (hB : fr_B n E a1) {s x : Nat} (hs : s < 5) (hx : x < 2)
    (h0 : E (2 * s + x) % 3 = 0 → post (-1)) (h1 : E (2 * s + x) % 3 ≠ 0 → post (nI (E (2 * s + x) % 3 - 1))) : wpX_output post (nn, sc, lc, cc, cu, st, ic, a1, a2, a3, a4, a5, a6, a7, a8, a9, a10) (nI s) (nI x) := by
  obtain ⟨hE, ha⟩ := hB (2 * s + x) (by omega)
  refine And.intro (by rw [fr_2]; exact vp_in_nI (by omega) (by omega)) (And.intro (by decide) ?_)
  show post (a1 ((2 : Int32) * nI s + nI x).toNatClampNeg - a1 ((2 : Int32) * nI s + nI x).toNatClampNeg / 3 * 3 - 1)
  rw [fr_2, nI_clamp (by omega), ha, fr_md _ (by omega)]
  by_cases g : E (2 * s + x) % 3 = 0
  · rw [if_pos g]
    exact h0 g
  · rw [if_neg g]
    exact h1 g
/-- what splits answers -/
def fr_spl (E : Nat → Nat) (v : Nat → Int32) (s t x L : Nat) : Prop :=
  (L = 1 ∧ E (2 * s + x) % 3 ≠ 0 ∧ E (2 * t + x) % 3 ≠ 0 ∧ E (2 * s + x) % 3 ≠ E (2 * t + x) % 3) ∨
  (L ≠ 1 ∧ 3 ≤ E (2 * s + x) ∧ 3 ≤ E (2 * t + x) ∧ v (5 * (E (2 * s + x) / 3 - 1) + (E (2 * t + x) / 3 - 1)) = nI (L - 1))
theorem fr_splits {post : Int32 → Prop} {n : Nat} {E : Nat → Nat} {nn sc lc cc cu st ic : Int32} {a1 a2 a3 a4 a5 a6 a7 a8 a9 a10 : Nat → Int32} (hn : n ≤ 5) (hB : fr_B n E a1) {s t x L : Nat} (hs : s < n) (ht : t < n) (hx : x < 2) (hL0 : 1 ≤ L) (hL : L ≤ 25)
    (h1 : fr_spl E a2 s t x L → post 1) (h0 : ¬ fr_spl E a2 s t x L → post 0) : wpX_splits post (nn, sc, lc, cc, cu, st, ic, a1, a2, a3, a4, a5, a6, a7, a8, a9, a10) (nI s) (nI t) (nI x) (nI L) := by
  have q1 := (hB (2 * s + x) (by omega)).1
  have q2 := (hB (2 * t + x) (by omega)).1
  refine pk_eq L 1 (fun e => ?_) (fun e => ?_)
  · refine fr_output hn hB (by omega) hx (fun g1 => ?_) (fun g1 => ?_)
    · refine fr_output hn hB (by omega) hx (fun g2 => ?_) (fun g2 => ?_)
      · exact br_t rfl (h0 (by rintro (⟨z1, z2, z3, z4⟩ | ⟨z1, z2, z3, z4⟩) <;> omega))
      · exact br_t rfl (h0 (by rintro (⟨z1, z2, z3, z4⟩ | ⟨z1, z2, z3, z4⟩) <;> omega))
    · refine fr_output hn hB (by omega) hx (fun g2 => ?_) (fun g2 => ?_)
      · exact br_f (fr_nm (by omega)) (br_t rfl (h0 (by rintro (⟨z1, z2, z3, z4⟩ | ⟨z1, z2, z3, z4⟩) <;> omega)))
      · refine br_f (fr_nm (by omega)) (br_f (fr_nm (by omega)) ?_)
        exact pk_eq (E (2 * s + x) % 3 - 1) (E (2 * t + x) % 3 - 1) (fun g3 => h0 (by rintro (⟨z1, z2, z3, z4⟩ | ⟨z1, z2, z3, z4⟩) <;> omega)) (fun g3 => h1 (Or.inl ⟨e, g1, g2, by omega⟩))
  · refine fr_next hn hB (by omega) hx (fun g1 => ?_) (fun g1 => ?_)
    · refine fr_next hn hB (by omega) hx (fun g2 => ?_) (fun g2 => ?_)
      · exact br_t rfl (h0 (by rintro (⟨z1, z2, z3, z4⟩ | ⟨z1, z2, z3, z4⟩) <;> omega))
      · exact br_t rfl (h0 (by rintro (⟨z1, z2, z3, z4⟩ | ⟨z1, z2, z3, z4⟩) <;> omega))
    · refine fr_next hn hB (by omega) hx (fun g2 => ?_) (fun g2 => ?_)
      · exact br_f (fr_nm (by omega)) (br_t rfl (h0 (by rintro (⟨z1, z2, z3, z4⟩ | ⟨z1, z2, z3, z4⟩) <;> omega)))
      · refine br_f (fr_nm (by omega)) (br_f (fr_nm (by omega)) ?_)
        rw [fr_5, nI_clamp (by omega), fr_m1 hL0]
        refine And.intro (vp_in_nI (by omega) (by omega)) ?_
        refine br_c (fun g3 => h1 (Or.inr ⟨e, g1, g2, g3⟩)) (fun g3 => h0 ?_)
        rintro (⟨z1, z2, z3, z4⟩ | ⟨z1, z2, z3, z4⟩)
        · exact e z1
        · exact g3 z4
/-- the image of a set -/
def fr_img (E : Nat → Nat) (m x : Nat) : Nat → Nat
  | 0 => 0
  | k + 1 => if m.testBit k = true ∧ 3 ≤ E (2 * k + x) then fr_img E m x k ||| 2 ^ (E (2 * k + x) / 3 - 1) else fr_img E m x k
theorem fr_imgT {E : Nat → Nat} {m x k : Nat} (h : m.testBit k = true) (g : 3 ≤ E (2 * k + x)) : fr_img E m x (k + 1) = fr_img E m x k ||| 2 ^ (E (2 * k + x) / 3 - 1) := if_pos ⟨h, g⟩
theorem fr_imgF {E : Nat → Nat} {m x k : Nat} (h : ¬ (m.testBit k = true ∧ 3 ≤ E (2 * k + x))) : fr_img E m x (k + 1) = fr_img E m x k := if_neg h
theorem fr_imgLt {n : Nat} {E : Nat → Nat} {m x : Nat} (hn : n ≤ 5) (hE : ∀ j, j < 10 → E j < 3 * (n + 1)) (hx : x < 2) : ∀ k, k ≤ n → fr_img E m x k < 2 ^ n
  | 0, _ => Nat.two_pow_pos n
  | k + 1, h => by
    have ih := fr_imgLt (m := m) hn hE hx k (by omega)
    by_cases g : m.testBit k = true ∧ 3 ≤ E (2 * k + x)
    · rw [fr_imgT g.1 g.2]
      have q := hE (2 * k + x) (by omega)
      have g2 := g.2
      exact fr_orLt ih (fr_pwLt (by omega))
    · rw [fr_imgF g]
      exact ih
theorem fr_image {post : Int32 → Prop} {n : Nat} {E : Nat → Nat} {nn sc lc cc cu st ic : Int32} {a1 a2 a3 a4 a5 a6 a7 a8 a9 a10 : Nat → Int32} (hn : n ≤ 5) (hf : nn = nI n) (hB : fr_B n E a1) {m x : Nat} (hm : m < 32) (hx : x < 2)
    (h : post (nI (fr_img E m x n))) : wpX_image post (nn, sc, lc, cc, cu, st, ic, a1, a2, a3, a4, a5, a6, a7, a8, a9, a10) (nI m) (nI x) := by
  subst hf
  refine pk_loop (σ := Unit) (fun k i _ => wX_image_5 post (nI m) (nI x) (nI n) sc lc cc cu st ic a1 a2 a3 a4 a5 a6 a7 a8 a9 a10 k (nI (fr_img E m x i)) (nI i)) (fun _ _ => True) n 0 () (by omega) trivial ?_ ?_
  · intro k _ _
    exact pk_le n n (fun _ => h) (fun z => absurd z (by omega))
  · intro k i _ hi _ hw
    have hw' : wX_image_5 post (nI m) (nI x) (nI n) sc lc cc cu st ic a1 a2 a3 a4 a5 a6 a7 a8 a9 a10 k (nI (fr_img E m x (i + 1))) (nI (i + 1)) := hw () trivial
    have q := (hB (2 * i + x) (by omega)).1
    refine pk_le n i (fun z => absurd z (by omega)) (fun _ => ?_)
    refine fr_next hn hB (by omega) hx (fun g => ?_) (fun g => ?_)
    · rw [fr_imgF (fun z => absurd z.2 (by omega))] at hw'
      exact ek_if (fr_bit m hm i (by omega)) (fun b => br_t rfl (nm_r (nI_1 i) hw')) (fun b => nm_r (nI_1 i) hw')
    · refine ek_if (fr_bit m hm i (by omega)) (fun b => ?_) (fun b => ?_)
      · rw [fr_imgT b g] at hw'
        exact br_f (fr_nm (by omega)) (nm_r (by rw [fr_shl _ (by omega), fr_or]) (nm_r (nI_1 i) hw'))
      · rw [fr_imgF (fun z => b z.1)] at hw'
        exact nm_r (nI_1 i) hw'
theorem fr_first {post : Int32 → Prop} {c m : Nat} {C : Nat → Nat} {nn sc lc cc cu st ic : Int32} {a1 a2 a3 a4 a5 a6 a7 a8 a9 a10 : Nat → Int32} (hc : c ≤ 5) (hf : cc = nI c) (hC : ∀ i, i < c → a8 i = nI (C i) ∧ C i < 32) (hm : m < 32)
    (h1 : ∀ i, i < c → m &&& C i = m → post (nI i)) (h0 : (∀ i, i < c → ¬ m &&& C i = m) → post (-1)) : wpX_firstWith post (nn, sc, lc, cc, cu, st, ic, a1, a2, a3, a4, a5, a6, a7, a8, a9, a10) (nI m) := by
  subst hf
  refine pk_loop (σ := Unit) (fun k i _ => wX_firstWith_2 post (nI m) nn sc lc (nI c) cu st ic a1 a2 a3 a4 a5 a6 a7 a8 a9 a10 k (nI i)) (fun i _ => ∀ j, j < i → ¬ m &&& C j = m) c 0 () (by omega) (fun j hj => absurd hj (by omega)) ?_ ?_
  · intro k _ hI
    exact pk_le c c (fun _ => h0 hI) (fun z => absurd z (by omega))
  · intro k i _ hi hI hw
    refine pk_le c i (fun z => absurd z (by omega)) (fun _ => ?_)
    rw [nI_clamp (by omega), (hC i hi).1]
    refine And.intro (vp_in_nI (by omega) (by omega)) (ek_if (fr_sub m hm (C i) (hC i hi).2) (fun b => h1 i hi b) (fun b => nm_r (nI_1 i) (hw () ?_)))
    intro j hj
    by_cases e : j = i
    · subst e
      exact b
    · exact hI j (by omega)
theorem fr_shared {post : Int32 → Prop} {n : Nat} {E : Nat → Nat} {nn sc lc cc cu st ic : Int32} {a1 a2 a3 a4 a5 a6 a7 a8 a9 a10 : Nat → Int32} (hn : n ≤ 5) (hf : nn = nI n) (hB : fr_B n E a1) {m x : Nat} (hm : m < 32) (hx : x < 2)
    (h : ∀ r, post r) : wpX_sharedOutput post (nn, sc, lc, cc, cu, st, ic, a1, a2, a3, a4, a5, a6, a7, a8, a9, a10) (nI m) (nI x) := by
  subst hf
  refine pk_loop (σ := Unit) (fun k i _ => wX_sharedOutput_2 post (nI m) (nI x) (nI n) sc lc cc cu st ic a1 a2 a3 a4 a5 a6 a7 a8 a9 a10 k (nI i)) (fun _ _ => True) n 0 () (by omega) trivial ?_ ?_
  · intro k _ _
    exact pk_le n n (fun _ => h _) (fun z => absurd z (by omega))
  · intro k i _ hi _ hw
    refine pk_le n i (fun z => absurd z (by omega)) (fun _ => ?_)
    refine br_c (fun b => ?_) (fun b => nm_r (nI_1 i) (hw () trivial))
    exact fr_output hn hB (by omega) hx (fun g => br_t rfl (nm_r (nI_1 i) (hw () trivial))) (fun g => br_f (fr_nm (by omega)) (h _))
theorem fr_build {post : St2 → Prop} {n c : Nat} {E C : Nat → Nat} {nn sc lc cc cu st ic : Int32} {a1 a2 a3 a4 a5 a6 a7 a8 a9 a10 : Nat → Int32} (hn : n ≤ 5) (hf : nn = nI n) (hB : fr_B n E a1) (hc : c ≤ 5) (hg : cc = nI c) (hC : ∀ i, i < c → a8 i = nI (C i) ∧ C i < 32)
    (h : ∀ b9 b10, post (nn, sc, lc, cc, cu, st, ic, a1, a2, a3, a4, a5, a6, a7, a8, b9, b10)) : wpX_buildClasses post (nn, sc, lc, cc, cu, st, ic, a1, a2, a3, a4, a5, a6, a7, a8, a9, a10) := by
  have e2 : (2 : Int32) * nI c = nI (2 * c) := pk_mul 2 c
  refine pk_loop (σ := (Nat → Int32) × (Nat → Int32)) (fun k i s => wX_buildClasses_2 post nn sc lc cc cu st ic k (nI i) a1 a2 a3 a4 a5 a6 a7 a8 s.1 s.2) (fun _ _ => True) (2 * c) 0 (a9, a10) (by omega) trivial ?_ ?_
  · intro k s _
    exact pk_le (2 * c) (2 * c) (fun _ => h _ _) (fun z => absurd z (by omega)) (by rw [hg, e2])
  · intro k i s hi _ hw
    obtain ⟨s9, s10⟩ := s
    have hw' : ∀ b9 b10, wX_buildClasses_2 post nn sc lc cc cu st ic k (nI (i + 1)) a1 a2 a3 a4 a5 a6 a7 a8 b9 b10 := fun b9 b10 => hw (b9, b10) trivial
    obtain ⟨hd, hm⟩ := fr_half i (by omega)
    obtain ⟨hc1, hc2⟩ := hC (i / 2) (by omega)
    have hil := fr_imgLt (m := C (i / 2)) hn (fun j hj => (hB j hj).1) (show i % 2 < 2 by omega) n (Nat.le_refl n)
    have hp := fr_pw n (by omega)
    show wX_buildClasses_2 post nn sc lc cc cu st ic (k + 1) (nI i) a1 a2 a3 a4 a5 a6 a7 a8 s9 s10
    refine pk_le (2 * c) i (fun z => absurd z (by omega)) (fun _ => ?_) (by rw [hg, e2])
    rw [hd, hm, nI_clamp (show i / 2 < 2 ^ 31 by omega), hc1]
    refine And.intro (vp_in_nI (by omega) (by omega)) ?_
    refine fr_image hn hf hB hc2 (by omega) ?_
    have fin : ∀ r : Int32, vp_in (nI i) 10 ∧ ∀ b9 : Nat → Int32, b9 = upd s9 (nI i).toNatClampNeg r → (vp_in (nI (i / 2)) 5 ∧ wpX_sharedOutput (fun r_8 => (vp_in (nI i) 10 ∧ ∀ b10 : Nat → Int32, b10 = upd s10 (nI i).toNatClampNeg r_8 → (∀ y : Int32, y = nI i + 1 → wX_buildClasses_2 post nn sc lc cc cu st ic k y a1 a2 a3 a4 a5 a6 a7 a8 b9 b10))) (nn, sc, lc, cc, cu, st, ic, a1, a2, a3, a4, a5, a6, a7, a8, b9, s10) (nI (C (i / 2))) (nI (i % 2))) := by
      intro r
      refine And.intro (vp_in_nI (by omega) (by omega)) (nm_e (And.intro (vp_in_nI (by omega) (by omega)) ?_))
      exact fr_shared hn hf hB hc2 (by omega) (fun r8 => And.intro (vp_in_nI (by omega) (by omega)) (nm_e (nm_r (nI_1 i) (hw' _ _))))
    exact fr_first hc hg hC (by omega) (fun j _ _ => fin _) (fun _ => fin _)
end
section
/-! levelPairs: the diagonal stays far, the levels stay symmetric -/
def fr_lev (n : Nat) (v : Nat → Int32) : Prop := (∀ s, s < n → v (5 * s + s) = 1000) ∧ ∀ s t, s < n → t < n → v (5 * s + t) = v (5 * t + s)
/-- a pair's level behind round L -/
def fr_nw (E : Nat → Nat) (v : Nat → Int32) (L s t : Nat) (y : Int32) : Prop :=
  (v (5 * s + t) = 1000 ∧ (fr_spl E v s t 0 L ∨ fr_spl E v s t 1 L) → y = nI L) ∧ (¬ (v (5 * s + t) = 1000 ∧ (fr_spl E v s t 0 L ∨ fr_spl E v s t 1 L)) → y = v (5 * s + t))
/-- within round L, at counter k: v the levels at its start, w those now -/
def fr_rd (n : Nat) (E : Nat → Nat) (v : Nat → Int32) (L k : Nat) (w : Nat → Int32) : Prop :=
  ∀ s t, s < n → t < n → (s * n + t < k → fr_nw E v L s t (w (5 * s + t))) ∧ (¬ s * n + t < k → w (5 * s + t) = v (5 * s + t))
theorem fr_thou {j : Nat} (h : j ≤ 25) : ¬ (1000 : Int32) = nI j := by
  intro e
  have e' : nI 1000 = nI j := e
  rw [nI_eq (by omega) (by omega)] at e'
  omega
theorem fr_splSym {n : Nat} {E : Nat → Nat} {v : Nat → Int32} {s t x L : Nat} (hn : n ≤ 5) (hE : ∀ j, j < 10 → E j < 3 * (n + 1)) (hv : fr_lev n v) (hs : s < n) (ht : t < n) (hx : x < 2) (h : fr_spl E v s t x L) : fr_spl E v t s x L := by
  have q1 := hE (2 * s + x) (by omega)
  have q2 := hE (2 * t + x) (by omega)
  rcases h with ⟨z1, z2, z3, z4⟩ | ⟨z1, z2, z3, z4⟩
  · exact Or.inl ⟨z1, z3, z2, fun e => z4 e.symm⟩
  · refine Or.inr ⟨z1, z3, z2, ?_⟩
    rw [← z4]
    exact hv.2 _ _ (by omega) (by omega)
theorem fr_splDiag {n : Nat} {E : Nat → Nat} {v : Nat → Int32} {s x L : Nat} (hn : n ≤ 5) (hE : ∀ j, j < 10 → E j < 3 * (n + 1)) (hv : fr_lev n v) (hs : s < n) (hx : x < 2) (hL : L ≤ 25) : ¬ fr_spl E v s s x L := by
  have q1 := hE (2 * s + x) (by omega)
  rintro (⟨z1, z2, z3, z4⟩ | ⟨z1, z2, z3, z4⟩)
  · exact z4 rfl
  · rw [hv.1 _ (by omega)] at z4
    exact fr_thou (by omega) z4
/-- within a round splits looks at what stood at its start -/
theorem fr_splRd {n : Nat} {E : Nat → Nat} {v w : Nat → Int32} {s t x L k : Nat} (hn : n ≤ 5) (hE : ∀ j, j < 10 → E j < 3 * (n + 1)) (hs : s < n) (ht : t < n) (hx : x < 2) (hL0 : 1 ≤ L) (hL : L ≤ 25) (hr : fr_rd n E v L k w) :
    fr_spl E w s t x L ↔ fr_spl E v s t x L := by
  have q1 := hE (2 * s + x) (by omega)
  have q2 := hE (2 * t + x) (by omega)
  have key : ∀ p q, p < n → q < n → L ≠ 1 → (w (5 * p + q) = nI (L - 1) ↔ v (5 * p + q) = nI (L - 1)) := by
    intro p q hp hq hL1
    by_cases g : p * n + q < k
    · obtain ⟨r1, r2⟩ := (hr p q hp hq).1 g
      by_cases c : v (5 * p + q) = 1000 ∧ (fr_spl E v p q 0 L ∨ fr_spl E v p q 1 L)
      · rw [r1 c, c.1, nI_eq (by omega) (by omega)]
        exact ⟨fun z => absurd z (by omega), fun z => absurd z (fr_thou (by omega))⟩
      · rw [r2 c]
    · rw [(hr p q hp hq).2 g]
  constructor
  · rintro (⟨z1, z2, z3, z4⟩ | ⟨z1, z2, z3, z4⟩)
    · exact Or.inl ⟨z1, z2, z3, z4⟩
    · exact Or.inr ⟨z1, z2, z3, (key _ _ (by omega) (by omega) z1).mp z4⟩
  · rintro (⟨z1, z2, z3, z4⟩ | ⟨z1, z2, z3, z4⟩)
    · exact Or.inl ⟨z1, z2, z3, z4⟩
    · exact Or.inr ⟨z1, z2, z3, (key _ _ (by omega) (by omega) z1).mpr z4⟩
/-- one pair further: its level -/
theorem fr_rdS {n : Nat} {E : Nat → Nat} {v w w' : Nat → Int32} {s t L : Nat} (hs : s < n) (ht : t < n) (hr : fr_rd n E v L (s * n + t) w)
    (h1 : fr_nw E v L s t (w' (5 * s + t))) (h2 : ∀ j, j ≠ 5 * s + t → w' j = w j) (hn : n ≤ 5) : fr_rd n E v L (s * n + t + 1) w' := by
  intro p q hp hq
  by_cases e : p * n + q = s * n + t
  · obtain ⟨rfl, rfl⟩ := fr_uq hq ht e
    exact ⟨fun _ => h1, fun z => absurd z (by omega)⟩
  · have hne : 5 * p + q ≠ 5 * s + t := by
      intro z
      have z1 : p = s := by omega
      have z2 : q = t := by omega
      exact e (by rw [z1, z2])
    rw [h2 _ hne]
    exact ⟨fun z => (hr p q hp hq).1 (by omega), fun z => (hr p q hp hq).2 (by omega)⟩
theorem fr_rdEnd {n : Nat} {E : Nat → Nat} {v w : Nat → Int32} {L : Nat} (hn : n ≤ 5) (hE : ∀ j, j < 10 → E j < 3 * (n + 1)) (hL : L ≤ 25) (hv : fr_lev n v) (hr : fr_rd n E v L (n * n) w) : fr_lev n w := by
  constructor
  · intro s hs
    obtain ⟨r1, r2⟩ := (hr s s hs hs).1 (fr_ix hs hs)
    rw [r2 (fun z => by
      rcases z.2 with z | z
      · exact fr_splDiag hn hE hv hs (by omega) hL z
      · exact fr_splDiag hn hE hv hs (by omega) hL z)]
    exact hv.1 s hs
  · intro s t hs ht
    obtain ⟨r1, r2⟩ := (hr s t hs ht).1 (fr_ix hs ht)
    obtain ⟨p1, p2⟩ := (hr t s ht hs).1 (fr_ix ht hs)
    by_cases c : v (5 * s + t) = 1000 ∧ (fr_spl E v s t 0 L ∨ fr_spl E v s t 1 L)
    · rw [r1 c, p1 ⟨by rw [← hv.2 s t hs ht]; exact c.1, c.2.imp (fr_splSym hn hE hv hs ht (by omega)) (fr_splSym hn hE hv hs ht (by omega))⟩]
    · rw [r2 c, p2 (fun z => c ⟨by rw [hv.2 s t hs ht]; exact z.1, z.2.imp (fr_splSym hn hE hv ht hs (by omega)) (fr_splSym hn hE hv ht hs (by omega))⟩)]
      exact hv.2 s t hs ht
/-- the inner loop -/
theorem fr_lp33 {post : St2 → Prop} {J : Int32 → (Nat → Int32) → (Nat → Int32) → (Nat → Int32) → (Nat → Int32) → (Nat → Int32) → (Nat → Int32) → (Nat → Int32) → (Nat → Int32) → (Nat → Int32) → (Nat → Int32) → Prop}
    {n L : Nat} {E : Nat → Nat} {nn sc lc cc cu st ic : Int32} {a1 a2 a3 a4 a5 a6 a7 a8 a9 a10 : Nat → Int32} (hn2 : 2 ≤ n) (hn : n ≤ 5) (hf : nn = nI n) (hB : fr_B n E a1) (hL0 : 1 ≤ L) (hL : L ≤ 25) (hv : fr_lev n a2)
    (h : ∀ w, fr_lev n w → J (nI (L + 1)) a1 w a3 a4 a5 a6 a7 a8 a9 a10) : ∃ fu, wX_levelPairs_33 post J (nI L) nn sc lc cc cu st ic fu 0 a1 a2 a3 a4 a5 a6 a7 a8 a9 a10 := by
  subst hf
  have hnn : n * n ≤ 25 := Nat.mul_le_mul hn hn
  have hE : ∀ j, j < 10 → E j < 3 * (n + 1) := fun j hj => (hB j hj).1
  refine pk_loop (σ := Nat → Int32) (fun k i w => wX_levelPairs_33 post J (nI L) (nI n) sc lc cc cu st ic k (nI i) a1 w a3 a4 a5 a6 a7 a8 a9 a10) (fun i w => fr_rd n E a2 L i w) (n * n) 0 a2 (by omega) (fun s t hs ht => ⟨fun z => absurd z (by omega), fun _ => rfl⟩) ?_ ?_
  · intro k w hr
    exact pk_le (n * n) (n * n) (fun _ => nm_r (nI_1 L) (h w (fr_rdEnd hn hE hL hv hr))) (fun z => absurd z (by omega)) (pk_mul n n)
  · intro k i w hi hr hw
    obtain ⟨s, t, hs, ht, hk, hd, hm⟩ := fr_pair hi
    have hw' : ∀ w', fr_rd n E a2 L (i + 1) w' → wX_levelPairs_33 post J (nI L) (nI n) sc lc cc cu st ic k (nI (i + 1)) a1 w' a3 a4 a5 a6 a7 a8 a9 a10 := hw
    have hsl : ∀ x, x < 2 → (fr_spl E w s t x L ↔ fr_spl E a2 s t x L) := fun x hx => fr_splRd hn hE hs ht hx hL0 hL hr
    have hwv : w (5 * s + t) = a2 (5 * s + t) := (hr s t hs ht).2 (by omega)
    have hskip : ¬ (a2 (5 * s + t) = 1000 ∧ (fr_spl E a2 s t 0 L ∨ fr_spl E a2 s t 1 L)) → wX_levelPairs_33 post J (nI L) (nI n) sc lc cc cu st ic k (nI (i + 1)) a1 w a3 a4 a5 a6 a7 a8 a9 a10 := by
      intro c
      refine hw' w ?_
      rw [hk] at hr ⊢
      exact fr_rdS hs ht hr ⟨fun z => absurd z c, fun _ => hwv⟩ (fun _ _ => rfl) hn
    have hset : a2 (5 * s + t) = 1000 ∧ (fr_spl E a2 s t 0 L ∨ fr_spl E a2 s t 1 L) → wX_levelPairs_102 post J (wX_levelPairs_33 post J (nI L) (nI n) sc lc cc cu st ic k) (nI L) (nI i) (nI s) (nI t) (nI n) sc lc cc cu st ic a1 w a3 a4 a5 a6 a7 a8 a9 a10 := by
      intro c
      refine And.intro (by rw [fr_5]; exact vp_in_nI (by omega) (by omega)) (nm_r (by rw [fr_5, nI_clamp (by omega)]) (nm_r (nI_1 i) (hw' _ ?_)))
      rw [hk] at hr ⊢
      exact fr_rdS hs ht hr ⟨fun _ => pk_us, fun z => absurd c z⟩ (fun j hj => pk_un hj) hn
    show wX_levelPairs_33 post J (nI L) (nI n) sc lc cc cu st ic (k + 1) (nI i) a1 w a3 a4 a5 a6 a7 a8 a9 a10
    refine pk_le (n * n) i (fun z => absurd z (by omega)) (fun _ => ?_) (pk_mul n n)
    refine And.intro (nI_ne0 (by omega) (by omega)) (nm_r (e' := nI s) (by rw [pk_div (by omega) (by omega) (by omega), hd]) (And.intro (nI_ne0 (by omega) (by omega)) (nm_r (e' := nI t) (by rw [pk_rem (by omega) (by omega) (by omega), hm]) ?_)))
    rw [fr_5, nI_clamp (show 5 * s + t < 2 ^ 31 by omega), hwv]
    refine And.intro (vp_in_nI (by omega) (by omega)) (br_c (fun g => ?_) (fun g => nm_r (nI_1 i) (hskip (fun z => g z.1))))
    refine fr_splits (x := 0) hn hB hs ht (by omega) hL0 hL (fun b => br_f (by decide) (hset ⟨g, Or.inl ((hsl 0 (by omega)).mp b)⟩)) (fun b => br_t rfl ?_)
    refine fr_splits (x := 1) hn hB hs ht (by omega) hL0 hL (fun b' => br_f (by decide) (hset ⟨g, Or.inr ((hsl 1 (by omega)).mp b')⟩)) (fun b' => br_t rfl (nm_r (nI_1 i) (hskip ?_)))
    rintro ⟨_, z | z⟩
    · exact b ((hsl 0 (by omega)).mpr z)
    · exact b' ((hsl 1 (by omega)).mpr z)
theorem fr_levels {post : St2 → Prop} {n : Nat} {E : Nat → Nat} {nn sc lc cc cu st ic : Int32} {a1 a2 a3 a4 a5 a6 a7 a8 a9 a10 : Nat → Int32} (hn2 : 2 ≤ n) (hn : n ≤ 5) (hf : nn = nI n) (hB : fr_B n E a1)
    (h : ∀ w, fr_lev n w → post (nn, sc, lc, cc, cu, st, ic, a1, w, a3, a4, a5, a6, a7, a8, a9, a10)) : wpX_levelPairs post (nn, sc, lc, cc, cu, st, ic, a1, a2, a3, a4, a5, a6, a7, a8, a9, a10) := by
  refine pk_loop (σ := Nat → Int32) (fun k i w => wX_levelPairs_2 post nn sc lc cc cu st ic k (nI i) a1 w a3 a4 a5 a6 a7 a8 a9 a10) (fun i w => ∀ j, j < i → w j = 1000) 25 0 a2 (by omega) (fun j hj => absurd hj (by omega)) ?_ ?_
  · intro k w hw
    refine pk_le 25 25 (fun _ => ?_) (fun z => absurd z (by omega))
    refine pk_loop (σ := Nat → Int32) (fun k i w => wX_levelPairs_25 post nn sc lc cc cu st ic k (nI i) a1 w a3 a4 a5 a6 a7 a8 a9 a10) (fun i w => 1 ≤ i ∧ fr_lev n w) 26 1 w (by omega) ⟨by omega, fun s hs => hw _ (by omega), fun s t hs ht => by rw [hw _ (by omega), hw _ (by omega)]⟩ ?_ ?_
    · intro k w hv
      exact pk_lt 25 26 (fun _ => h w hv.2) (fun z => absurd z (by omega))
    · intro k L w hL hv hw
      exact pk_lt 25 L (fun z => absurd z (by omega)) (fun _ => fr_lp33 hn2 hn hf hB hv.1 (by omega) hv.2 (fun w' hv' => hw w' ⟨by omega, hv'⟩))
  · intro k i w hi hI hw
    refine pk_le 25 i (fun z => absurd z (by omega)) (fun _ => ?_)
    refine And.intro (vp_in_nI (by omega) (by omega)) (nm_e (nm_r (nI_1 i) (hw _ ?_)))
    intro j hj
    rw [nI_clamp (by omega)]
    by_cases e : j = i
    · subst e
      exact pk_us
    · rw [pk_un e]
      exact hI j (by omega)
end
section
/-! holdsTogether, listSets, listLargest -/
/-- all pairs of a set are far -/
def fr_holds (n : Nat) (v : Nat → Int32) (m : Nat) : Prop := ∀ s t, s < n → t < n → m.testBit s = true → m.testBit t = true → v (5 * s + t) = 1000
theorem fr_hold {post : Int32 → Prop} {n m : Nat} {nn sc lc cc cu st ic : Int32} {a1 a2 a3 a4 a5 a6 a7 a8 a9 a10 : Nat → Int32} (hn2 : 2 ≤ n) (hn : n ≤ 5) (hf : nn = nI n) (hm : m < 32)
    (h1 : fr_holds n a2 m → post 1) (h0 : ¬ fr_holds n a2 m → post 0) : wpX_holdsTogether post (nn, sc, lc, cc, cu, st, ic, a1, a2, a3, a4, a5, a6, a7, a8, a9, a10) (nI m) := by
  subst hf
  have hnn : n * n ≤ 25 := Nat.mul_le_mul hn hn
  refine pk_loop (σ := Unit) (fun k i _ => wX_holdsTogether_2 post (nI m) (nI n) sc lc cc cu st ic a1 a2 a3 a4 a5 a6 a7 a8 a9 a10 k (nI i)) (fun i _ => ∀ s t, s < n → t < n → s * n + t < i → m.testBit s = true → m.testBit t = true → a2 (5 * s + t) = 1000) (n * n) 0 () (by omega) (fun s t _ _ hj => absurd hj (by omega)) ?_ ?_
  · intro k _ hI
    exact pk_le (n * n) (n * n) (fun _ => h1 (fun s t hs ht => hI s t hs ht (fr_ix hs ht))) (fun z => absurd z (by omega)) (pk_mul n n)
  · intro k i _ hi hI hw
    obtain ⟨s, t, hs, ht, hk, hd, hm'⟩ := fr_pair hi
    have go : (m.testBit s = true → m.testBit t = true → a2 (5 * s + t) = 1000) → wX_holdsTogether_2 post (nI m) (nI n) sc lc cc cu st ic a1 a2 a3 a4 a5 a6 a7 a8 a9 a10 k (nI (i + 1)) := by
      intro c
      refine hw () ?_
      intro p q hp hq hpq
      by_cases e : p * n + q = s * n + t
      · obtain ⟨rfl, rfl⟩ := fr_uq hq ht e
        exact c
      · exact hI p q hp hq (by omega)
    show wX_holdsTogether_2 post (nI m) (nI n) sc lc cc cu st ic a1 a2 a3 a4 a5 a6 a7 a8 a9 a10 (k + 1) (nI i)
    refine pk_le (n * n) i (fun z => absurd z (by omega)) (fun _ => ?_) (pk_mul n n)
    refine And.intro (nI_ne0 (by omega) (by omega)) (nm_r (e' := nI s) (by rw [pk_div (by omega) (by omega) (by omega), hd]) (And.intro (nI_ne0 (by omega) (by omega)) (nm_r (e' := nI t) (by rw [pk_rem (by omega) (by omega) (by omega), hm']) ?_)))
    rw [fr_5, nI_clamp (show 5 * s + t < 2 ^ 31 by omega)]
    refine ek_if (fr_bit m hm s (by omega)) (fun b => ?_) (fun b => nm_r (nI_1 i) (go (fun z => absurd z b)))
    refine ek_if (fr_bit m hm t (by omega)) (fun b' => ?_) (fun b' => nm_r (nI_1 i) (go (fun _ z => absurd z b')))
    exact And.intro (vp_in_nI (by omega) (by omega)) (br_c (fun g => nm_r (nI_1 i) (go (fun _ _ => g))) (fun g => h0 (fun z => g (z s t hs ht b b'))))
/-- a set of one -/
theorem fr_one {n : Nat} {v : Nat → Int32} {s : Nat} (hv : fr_lev n v) : fr_holds n v (2 ^ s) := by
  intro p q hp hq hb hb'
  rw [fr_tbPow] at hb hb'
  subst hb hb'
  exact hv.1 s hp
/-- the list of sets while it is made: the sets below i -/
def fr_ls (n : Nat) (v : Nat → Int32) (i k : Nat) (S : Nat → Nat) (a3 : Nat → Int32) : Prop :=
  k + 1 ≤ i ∧ (∀ j, j < k → a3 j = nI (S j) ∧ 1 ≤ S j ∧ S j < i ∧ fr_holds n v (S j)) ∧ (∀ j j', j < j' → j' < k → S j < S j') ∧ (∀ m, 1 ≤ m → m < i → fr_holds n v m → ∃ j, j < k ∧ S j = m)
/-- a row of later -/
def fr_lt (n k : Nat) (S : Nat → Nat) (i : Nat) (x : Int32) : Prop := ∃ m, m < 2 ^ n ∧ x = nI m ∧ ∀ j, i ≤ j → j < k → S j &&& m = S j
theorem fr_lsAdd {n i k : Nat} {v a3 : Nat → Int32} {S : Nat → Nat} (h : fr_ls n v i k S a3) (g : fr_holds n v i) : fr_ls n v (i + 1) (k + 1) (fun j => if j = k then i else S j) (upd a3 k (nI i)) := by
  obtain ⟨h1, h2, h3, h4⟩ := h
  refine ⟨by omega, ?_, ?_, ?_⟩
  · intro j hj
    by_cases e : j = k
    · subst e
      simp only [if_true]
      exact ⟨pk_us, by omega, by omega, g⟩
    · simp only [if_neg e]
      rw [pk_un e]
      obtain ⟨p1, p2, p3, p4⟩ := h2 j (by omega)
      exact ⟨p1, p2, by omega, p4⟩
  · intro j j' hj hj'
    have e : ¬ j = k := by omega
    simp only [if_neg e]
    by_cases e' : j' = k
    · simp only [if_pos e']
      exact (h2 j (by omega)).2.2.1
    · simp only [if_neg e']
      exact h3 j j' hj (by omega)
  · intro m hm hm' hh
    by_cases e : m = i
    · exact ⟨k, by omega, by simp [e]⟩
    · obtain ⟨j, hj, hjm⟩ := h4 m hm (by omega) hh
      refine ⟨j, by omega, ?_⟩
      have e : ¬ j = k := by omega
      simp only [if_neg e]
      exact hjm
theorem fr_lsSkip {n i k : Nat} {v a3 : Nat → Int32} {S : Nat → Nat} (h : fr_ls n v i k S a3) (g : ¬ fr_holds n v i) : fr_ls n v (i + 1) k S a3 := by
  obtain ⟨h1, h2, h3, h4⟩ := h
  refine ⟨by omega, ?_, h3, ?_⟩
  · intro j hj
    obtain ⟨p1, p2, p3, p4⟩ := h2 j hj
    exact ⟨p1, p2, by omega, p4⟩
  · intro m hm hm' hh
    by_cases e : m = i
    · subst e
      exact absurd hh g
    · exact h4 m hm (by omega) hh
theorem fr_later {post : St2 → Prop} {n k : Nat} {S : Nat → Nat} {nn sc lc cc cu st ic : Int32} {a1 a2 a3 a4 a5 a6 a7 a8 a9 a10 : Nat → Int32} (hk : k ≤ 31) (hS : ∀ j, j < k → a3 j = nI (S j) ∧ S j < 2 ^ n) (h4 : a4 k = 0)
    (h : ∀ b4, (∀ i, i ≤ k → fr_lt n k S i (b4 i)) → post (nn, sc, lc, cc, cu, st, ic, a1, a2, a3, b4, a5, a6, a7, a8, a9, a10)) : ∃ fu, wX_listSets_68 post nn sc lc cc cu st ic fu (nI k - 1) a1 a2 a3 a4 a5 a6 a7 a8 a9 a10 := by
  refine ⟨k + 1, pk_loopD (σ := Nat → Int32) (fun f i w => i ≤ k → wX_listSets_68 post nn sc lc cc cu st ic f (nI i - 1) a1 a2 a3 w a5 a6 a7 a8 a9 a10) (fun i w => ∀ i', i ≤ i' → i' ≤ k → fr_lt n k S i' (w i')) ?_ ?_ k a4 ?_ (Nat.le_refl k)⟩
  · intro f w hI _
    exact br_t (by decide) (h w (fun i hi => hI i (by omega) hi))
  · intro f i w hI hw hik
    show wX_listSets_68 post nn sc lc cc cu st ic (f + 1) (nI (i + 1) - 1) a1 a2 a3 w a5 a6 a7 a8 a9 a10
    rw [nI_pred]
    refine br_f (nI_pos (by omega)) ?_
    rw [nI_1, nI_clamp (show i < 2 ^ 31 by omega), nI_clamp (show i + 1 < 2 ^ 31 by omega)]
    refine And.intro (vp_in_nI (by omega) (by omega)) (And.intro (vp_in_nI (by omega) (by omega)) (And.intro (vp_in_nI (by omega) (by omega)) (nm_e (nm_r (e' := nI i - 1) (Int32.sub_eq_add_neg _ _).symm (hw _ ?_ (by omega))))))
    intro i' h1 h2
    by_cases e : i' = i
    · subst e
      rw [pk_us]
      obtain ⟨m, hm, hx, hj⟩ := hI (i' + 1) (by omega) (by omega)
      obtain ⟨s1, s2⟩ := hS i' (by omega)
      rw [hx, s1, fr_or]
      refine ⟨m ||| S i', fr_orLt hm s2, rfl, ?_⟩
      intro j hj1 hj2
      by_cases e' : j = i'
      · subst e'
        exact fr_leR _ (fr_leS _)
      · exact fr_leL _ (hj j (by omega) hj2)
    · rw [pk_un e]
      exact hI i' (by omega) h2
  · intro i' h1 h2
    have e : i' = k := by omega
    subst e
    rw [h4]
    exact ⟨0, Nat.two_pow_pos n, rfl, fun j hj1 hj2 => absurd hj2 (by omega)⟩
/-- the lists that stand behind listSets -/
def fr_sets (n : Nat) (v : Nat → Int32) (k : Nat) (S : Nat → Nat) (a3 a4 : Nat → Int32) : Prop :=
  k ≤ 31 ∧ (∀ i, i < k → a3 i = nI (S i) ∧ 1 ≤ S i ∧ S i < 2 ^ n ∧ fr_holds n v (S i)) ∧ (∀ i j, i < j → j < k → S i < S j) ∧ (∀ m, 1 ≤ m → m < 2 ^ n → fr_holds n v m → ∃ i, i < k ∧ S i = m) ∧ (∀ i, i ≤ k → fr_lt n k S i (a4 i))
theorem fr_list {post : St2 → Prop} {n : Nat} {nn sc lc cc cu st ic : Int32} {a1 a2 a3 a4 a5 a6 a7 a8 a9 a10 : Nat → Int32} (hn2 : 2 ≤ n) (hn : n ≤ 5) (hf : nn = nI n)
    (h : ∀ (k : Nat) (S : Nat → Nat) (b3 b4 : Nat → Int32), fr_sets n a2 k S b3 b4 → post (nn, nI k, lc, cc, cu, st, ic, a1, a2, b3, b4, a5, a6, a7, a8, a9, a10)) : wpX_listSets post (nn, sc, lc, cc, cu, st, ic, a1, a2, a3, a4, a5, a6, a7, a8, a9, a10) := by
  subst hf
  have hp := fr_pw n (by omega)
  refine pk_loop (σ := Nat × (Nat → Int32)) (fun f i s => wX_listSets_7 post (nI n) lc cc cu st ic f (nI i) (nI s.1) a1 a2 s.2 a4 a5 a6 a7 a8 a9 a10) (fun i s => ∃ S, fr_ls n a2 i s.1 S s.2) (2 ^ n) 1 (0, a3) (Nat.two_pow_pos n) ⟨fun _ => 0, by omega, fun j hj => absurd hj (by omega), fun j j' _ hj => absurd hj (by omega), fun m h1 h2 => absurd h1 (by omega)⟩ ?_ ?_
  · intro f s hI
    obtain ⟨k, b3⟩ := s
    obtain ⟨S, h1, h2, h3, h4⟩ := hI
    dsimp only at h1 h2 h3 h4
    show wX_listSets_7 post (nI n) lc cc cu st ic (f + 1) (nI (2 ^ n)) (nI k) a1 a2 b3 a4 a5 a6 a7 a8 a9 a10
    refine pk_le (2 ^ n) (2 ^ n) (fun _ => ?_) (fun z => absurd z (by omega)) (fr_shl n (by omega))
    rw [nI_clamp (show k < 2 ^ 31 by omega)]
    refine And.intro (vp_in_nI (by omega) (by omega)) (nm_e (nm_e (fr_later (n := n) (S := S) (by omega) (fun j hj => ⟨(h2 j hj).1, (h2 j hj).2.2.1⟩) pk_us ?_)))
    intro b4 hb4
    exact h k S b3 b4 ⟨by omega, h2, h3, h4, hb4⟩
  · intro f i s hi hI hw
    obtain ⟨k, b3⟩ := s
    obtain ⟨S, hS⟩ := hI
    dsimp only at hS
    have h1 := hS.1
    show wX_listSets_7 post (nI n) lc cc cu st ic (f + 1) (nI i) (nI k) a1 a2 b3 a4 a5 a6 a7 a8 a9 a10
    refine pk_le (2 ^ n) i (fun z => absurd z (by omega)) (fun _ => ?_) (fr_shl n (by omega))
    refine fr_hold hn2 hn rfl (by omega) (fun g => br_f (by decide) ?_) (fun g => br_t rfl (nm_r (nI_1 i) (hw (k, b3) ⟨S, fr_lsSkip hS g⟩)))
    rw [nI_clamp (show k < 2 ^ 31 by omega)]
    exact And.intro (vp_in_nI (by omega) (by omega)) (nm_e (nm_r (nI_1 k) (nm_r (nI_1 i) (hw (k + 1, upd b3 k (nI i)) ⟨_, fr_lsAdd hS g⟩))))
/-- no later set holds it -/
def fr_al (k : Nat) (S : Nat → Nat) (i : Nat) : Prop := ∀ j, i < j → j < k → ¬ S i &&& S j = S i
theorem fr_ll21 {post : St2 → Prop} {J : Int32 → Int32 → (Nat → Int32) → (Nat → Int32) → (Nat → Int32) → (Nat → Int32) → (Nat → Int32) → (Nat → Int32) → (Nat → Int32) → (Nat → Int32) → (Nat → Int32) → (Nat → Int32) → Prop}
    {k i l : Nat} {S : Nat → Nat} {nn sc lc cc cu st ic : Int32} {a1 a2 a3 a4 a5 a6 a7 a8 a9 a10 : Nat → Int32} (hk : k ≤ 31) (hf : sc = nI k) (hg : lc = nI l) (hi : i < k) (hl : l ≤ i) (hS : ∀ j, j < k → a3 j = nI (S j) ∧ S j < 32)
    (h1 : fr_al k S i → J (nI (i + 1)) (nI (l + 1)) a1 a2 a3 a4 (upd a5 l (nI (S i))) a6 a7 a8 a9 a10) (h0 : ¬ fr_al k S i → J (nI (i + 1)) (nI l) a1 a2 a3 a4 a5 a6 a7 a8 a9 a10) : ∃ fu, wX_listLargest_21 post J (nI i) nn sc lc cc cu st ic a1 a2 a3 a4 a5 a6 a7 a8 a9 a10 fu 1 (nI (i + 1)) := by
  subst hf hg
  refine pk_loop (σ := Int32) (fun f j x => wX_listLargest_21 post J (nI i) nn (nI k) (nI l) cc cu st ic a1 a2 a3 a4 a5 a6 a7 a8 a9 a10 f x (nI j)) (fun j x => i < j ∧ ((x = 1 ∧ ∀ q, i < q → q < j → ¬ S i &&& S q = S i) ∨ (x = 0 ∧ ¬ fr_al k S i))) k (i + 1) 1 (by omega) ⟨by omega, Or.inl ⟨rfl, fun q h1 h2 => absurd h2 (by omega)⟩⟩ ?_ ?_
  · intro f x hI
    refine pk_le k k (fun _ => ?_) (fun z => absurd z (by omega))
    rw [nI_clamp (show i < 2 ^ 31 by omega), nI_clamp (show l < 2 ^ 31 by omega), (hS i hi).1]
    rcases hI.2 with ⟨rfl, hx⟩ | ⟨rfl, hx⟩
    · exact br_f (by decide) (And.intro (vp_in_nI (by omega) (by omega)) (And.intro (vp_in_nI (by omega) (by omega)) (nm_e (nm_r (nI_1 l) (nm_r (nI_1 i) (h1 hx))))))
    · exact br_t rfl (nm_r (nI_1 i) (h0 hx))
  · intro f j x hj hI hw
    refine pk_le k j (fun z => absurd z (by omega)) (fun _ => ?_)
    rw [nI_clamp (show i < 2 ^ 31 by omega), nI_clamp (show j < 2 ^ 31 by omega), (hS i hi).1, (hS j hj).1]
    have hij := hI.1
    rcases hI.2 with ⟨rfl, hx⟩ | ⟨rfl, hx⟩
    · refine br_f (by decide) (And.intro (vp_in_nI (by omega) (by omega)) (And.intro (vp_in_nI (by omega) (by omega)) ?_))
      refine ek_if (fr_sub (S i) (hS i hi).2 (S j) (hS j hj).2) (fun b => nm_r (nI_1 j) (hw 0 ⟨by omega, Or.inr ⟨rfl, fun z => z j hij hj b⟩⟩)) (fun b => nm_r (nI_1 j) (hw 1 ⟨by omega, Or.inl ⟨rfl, ?_⟩⟩))
      intro q h2 h3
      by_cases e : q = j
      · subst e
        exact b
      · exact hx q h2 (by omega)
    · exact br_t rfl (nm_r (nI_1 j) (hw 0 ⟨by omega, Or.inr ⟨rfl, hx⟩⟩))
/-- the maximal sets -/
def fr_lar (n : Nat) (v : Nat → Int32) (l : Nat) (a5 : Nat → Int32) : Prop :=
  1 ≤ l ∧ l ≤ 31 ∧ (∀ i, i < l → ∃ m, a5 i = nI m ∧ m < 2 ^ n ∧ fr_holds n v m) ∧ (∀ m, 1 ≤ m → m < 2 ^ n → fr_holds n v m → ∃ i, i < l ∧ ∃ m', m' < 2 ^ n ∧ a5 i = nI m' ∧ m &&& m' = m)
/-- every set lies in one that no later set holds -/
theorem fr_top {k : Nat} {S : Nat → Nat} {P : Nat → Prop} (hP : ∀ i, i < k → fr_al k S i → P i) : ∀ d i, i < k → k - i ≤ d → ∃ j, j < k ∧ P j ∧ S i &&& S j = S i := by
  intro d
  induction d with
  | zero => intro i hi hd; omega
  | succ d ih =>
    intro i hi hd
    by_cases g : fr_al k S i
    · exact ⟨i, hi, hP i hi g, fr_leS _⟩
    · have g' : ∃ j, i < j ∧ j < k ∧ S i &&& S j = S i := Classical.byContradiction (fun z => g (fun j h1 h2 h3 => z ⟨j, h1, h2, h3⟩))
      obtain ⟨j, h1, h2, h3⟩ := g'
      obtain ⟨q, hq, hp, hs⟩ := ih j h2 (by omega)
      exact ⟨q, hq, hp, fr_leT h3 hs⟩
theorem fr_largest {post : St2 → Prop} {n k : Nat} {S : Nat → Nat} {nn sc lc cc cu st ic : Int32} {a1 a2 a3 a4 a5 a6 a7 a8 a9 a10 : Nat → Int32} (hn2 : 2 ≤ n) (hn : n ≤ 5) (hf : sc = nI k) (hv : fr_lev n a2) (hS : fr_sets n a2 k S a3 a4)
    (h : ∀ (l : Nat) (b5 : Nat → Int32), fr_lar n a2 l b5 → post (nn, sc, nI l, cc, cu, st, ic, a1, a2, a3, a4, b5, a6, a7, a8, a9, a10)) : wpX_listLargest post (nn, sc, lc, cc, cu, st, ic, a1, a2, a3, a4, a5, a6, a7, a8, a9, a10) := by
  subst hf
  obtain ⟨s1, s2, s3, s4, s5⟩ := hS
  have hp := fr_pw n (by omega)
  have s32 : ∀ j, j < k → a3 j = nI (S j) ∧ S j < 32 := fun j hj => ⟨(s2 j hj).1, Nat.lt_of_lt_of_le (s2 j hj).2.2.1 hp⟩
  refine pk_loop (σ := Nat × (Nat → Int32)) (fun f i s => wX_listLargest_7 post nn (nI k) cc cu st ic f (nI i) (nI s.1) a1 a2 a3 a4 s.2 a6 a7 a8 a9 a10) (fun i s => s.1 ≤ i ∧ (∀ j, j < s.1 → ∃ q, q < k ∧ s.2 j = nI (S q)) ∧ (∀ q, q < i → fr_al k S q → ∃ j, j < s.1 ∧ s.2 j = nI (S q))) k 0 (0, a5) (by omega) ⟨by omega, fun j hj => absurd hj (by omega), fun q hq => absurd hq (by omega)⟩ ?_ ?_
  · intro f s hI
    obtain ⟨l, b5⟩ := s
    obtain ⟨h1, h2, h3⟩ := hI
    dsimp only at h1 h2 h3
    refine pk_le k k (fun _ => ?_) (fun z => absurd z (by omega))
    have all : ∀ m, 1 ≤ m → m < 2 ^ n → fr_holds n a2 m → ∃ i, i < l ∧ ∃ m', m' < 2 ^ n ∧ b5 i = nI m' ∧ m &&& m' = m := by
      intro m m1 m2 m3
      obtain ⟨i, hi, rfl⟩ := s4 m m1 m2 m3
      obtain ⟨q, hq, ⟨j, hj, hjq⟩, hs⟩ := fr_top (P := fun q => ∃ j, j < l ∧ b5 j = nI (S q)) (fun i hi g => h3 i hi g) k i hi (by omega)
      exact ⟨j, hj, S q, (s2 q hq).2.2.1, hjq, hs⟩
    refine h l b5 ⟨?_, by omega, ?_, all⟩
    · obtain ⟨i, hi, _⟩ := all (2 ^ 0) (by decide) (fr_pwLt (by omega)) (fr_one hv)
      omega
    · intro i hi
      obtain ⟨q, hq, hb⟩ := h2 i hi
      exact ⟨S q, hb, (s2 q hq).2.2.1, (s2 q hq).2.2.2⟩
  · intro f i s hi hI hw
    obtain ⟨l, b5⟩ := s
    obtain ⟨h1, h2, h3⟩ := hI
    dsimp only at h1 h2 h3
    refine pk_le k i (fun z => absurd z (by omega)) (fun _ => nm_r (nI_1 i) ?_)
    refine fr_ll21 (l := l) s1 rfl rfl hi h1 s32 (fun g => hw (l + 1, upd b5 l (nI (S i))) ⟨?_, ?_, ?_⟩) (fun g => hw (l, b5) ⟨?_, h2, ?_⟩)
    · show l + 1 ≤ i + 1
      omega
    · intro j hj
      have hj' : j < l + 1 := hj
      show ∃ q, q < k ∧ upd b5 l (nI (S i)) j = nI (S q)
      by_cases e : j = l
      · subst e
        exact ⟨i, hi, pk_us⟩
      · rw [pk_un e]
        exact h2 j (by omega)
    · intro q hq ga
      show ∃ j, j < l + 1 ∧ upd b5 l (nI (S i)) j = nI (S q)
      by_cases e : q = i
      · subst e
        exact ⟨l, by omega, pk_us⟩
      · obtain ⟨j, hj, hb⟩ := h3 q (by omega) ga
        exact ⟨j, by omega, by rw [pk_un (by omega)]; exact hb⟩
    · show l ≤ i + 1
      omega
    · intro q hq ga
      show ∃ j, j < l ∧ b5 j = nI (S q)
      by_cases e : q = i
      · subst e
        exact absurd ga g
      · exact h3 q (by omega) ga
end
section
/-! isClosed -/
/-- what each set implies lies in one of them -/
def fr_closed (n : Nat) (E : Nat → Nat) (C : Nat → Nat) (c : Nat) : Prop := ∀ i, i < c → ∀ x, x < 2 → ∃ j, j < c ∧ fr_img E (C i) x n &&& C j = fr_img E (C i) x n
theorem fr_closedC {n c : Nat} {E C D : Nat → Nat} (h : ∀ i, i < c → C i = D i) (g : fr_closed n E C c) : fr_closed n E D c := by
  intro i hi x hx
  obtain ⟨j, hj, e⟩ := g i hi x hx
  rw [h i hi, h j hj] at e
  exact ⟨j, hj, e⟩
theorem fr_cl37 {post : Int32 → St2 → Prop} {n c : Nat} {E C : Nat → Nat} {nn sc lc cc cu st ic : Int32} {a1 a2 a3 a4 a5 a6 a7 a8 a9 a10 : Nat → Int32} (hn : n ≤ 5) (hf : nn = nI n) (hB : fr_B n E a1) (hc : c ≤ 5) (hg : cc = nI c) (hC : ∀ i, i < c → a8 i = nI (C i) ∧ C i < 32)
    (h1 : fr_closed n E C c → post 1 (nn, sc, lc, cc, cu, st, ic, a1, a2, a3, a4, a5, a6, a7, a8, a9, a10)) (h0 : ¬ fr_closed n E C c → post 0 (nn, sc, lc, cc, cu, st, ic, a1, a2, a3, a4, a5, a6, a7, a8, a9, a10)) : ∃ fu, wX_isClosed_37 post (nI c) nn sc lc cc cu st ic a1 a2 a3 a4 a5 a6 a7 a8 a9 a10 fu 0 := by
  have e2 : (2 : Int32) * nI c = nI (2 * c) := pk_mul 2 c
  refine pk_loop (σ := Unit) (fun f k _ => wX_isClosed_37 post (nI c) nn sc lc cc cu st ic a1 a2 a3 a4 a5 a6 a7 a8 a9 a10 f (nI k)) (fun k _ => ∀ q, q < k → ∃ j, j < c ∧ fr_img E (C (q / 2)) (q % 2) n &&& C j = fr_img E (C (q / 2)) (q % 2) n) (2 * c) 0 () (by omega) (fun q hq => absurd hq (by omega)) ?_ ?_
  · intro f _ hI
    refine pk_le (2 * c) (2 * c) (fun _ => h1 ?_) (fun z => absurd z (by omega)) e2
    intro i hi x hx
    have q := hI (2 * i + x) (by omega)
    rw [show (2 * i + x) / 2 = i by omega, show (2 * i + x) % 2 = x by omega] at q
    exact q
  · intro f k _ hk hI hw
    obtain ⟨hd, hm⟩ := fr_half k (by omega)
    obtain ⟨hc1, hc2⟩ := hC (k / 2) (by omega)
    have hil := fr_imgLt (m := C (k / 2)) hn (fun j hj => (hB j hj).1) (show k % 2 < 2 by omega) n (Nat.le_refl n)
    have hp := fr_pw n (by omega)
    refine pk_le (2 * c) k (fun z => absurd z (by omega)) (fun _ => ?_) e2
    rw [hd, hm, nI_clamp (show k / 2 < 2 ^ 31 by omega), hc1]
    refine And.intro (vp_in_nI (by omega) (by omega)) ?_
    refine fr_image hn hf hB hc2 (by omega) ?_
    refine fr_first hc hg hC (by omega) (fun j hj hs => br_f (fr_nm (by omega)) (nm_r (nI_1 k) (hw () ?_))) (fun hN => br_t rfl (h0 ?_))
    · intro q hq
      by_cases e : q = k
      · subst e
        exact ⟨j, hj, hs⟩
      · exact hI q (by omega)
    · intro z
      obtain ⟨j, hj, hs⟩ := z (k / 2) (by omega) (k % 2) (by omega)
      exact hN j hj hs
theorem fr_isClosed {post : Int32 → St2 → Prop} {n c : Nat} {E C : Nat → Nat} {nn sc lc cc cu st ic : Int32} {a1 a2 a3 a4 a5 a6 a7 a8 a9 a10 : Nat → Int32} (hn : n ≤ 5) (hf : nn = nI n) (hB : fr_B n E a1) (hc : c ≤ 5)
    (hC : ∀ i, i < c → ∃ q, q < 31 ∧ a6 i = nI q ∧ a3 q = nI (C i) ∧ C i < 32)
    (h1 : fr_closed n E C c → ∀ b8, (∀ i, i < c → b8 i = nI (C i)) → post 1 (nn, sc, lc, nI c, cu, st, ic, a1, a2, a3, a4, a5, a6, a7, b8, a9, a10))
    (h0 : ¬ fr_closed n E C c → ∀ b8, post 0 (nn, sc, lc, nI c, cu, st, ic, a1, a2, a3, a4, a5, a6, a7, b8, a9, a10)) : wpX_isClosed post (nn, sc, lc, cc, cu, st, ic, a1, a2, a3, a4, a5, a6, a7, a8, a9, a10) (nI c) := by
  refine pk_loop (σ := Nat → Int32) (fun f i w => wX_isClosed_7 post (nI c) nn sc lc (nI c) cu st ic f (nI i) a1 a2 a3 a4 a5 a6 a7 w a9 a10) (fun i w => ∀ j, j < i → w j = nI (C j)) c 0 a8 (by omega) (fun j hj => absurd hj (by omega)) ?_ ?_
  · intro f w hI
    refine pk_le c c (fun _ => ?_) (fun z => absurd z (by omega))
    refine fr_cl37 hn hf hB hc rfl (fun i hi => ⟨hI i hi, ?_⟩) (fun g => h1 g w hI) (fun g => h0 g w)
    obtain ⟨q, _, _, _, h⟩ := hC i hi
    exact h
  · intro f i w hi hI hw
    obtain ⟨q, q1, q2, q3, q4⟩ := hC i hi
    refine pk_le c i (fun z => absurd z (by omega)) (fun _ => ?_)
    rw [nI_clamp (show i < 2 ^ 31 by omega), q2, nI_clamp (show q < 2 ^ 31 by omega), q3]
    refine And.intro (vp_in_nI (by omega) (by omega)) (And.intro (vp_in_nI (by omega) (by omega)) (And.intro (vp_in_nI (by omega) (by omega)) (nm_e (nm_r (nI_1 i) (hw _ ?_)))))
    intro j hj
    by_cases e : j = i
    · subst e
      exact pk_us
    · rw [pk_un e]
      exact hI j (by omega)
end
section
/-! findCover: the search's picture -/
/-- steps that a level takes: r levels below it, c places left -/
def fr_G (h : Nat → Nat) : Nat → Nat
  | 0 => 1
  | c + 1 => 1 + h (c + 1) + fr_G h c
def fr_F : Nat → Nat → Nat
  | 0 => fun c => c + 1
  | r + 1 => fr_G (fr_F r)
theorem fr_F0 (r : Nat) : fr_F (r + 1) 0 = 1 := rfl
theorem fr_F1 (r c : Nat) : fr_F (r + 1) (c + 1) = 1 + fr_F r (c + 1) + fr_F (r + 1) c := rfl
theorem fr_Fpos : ∀ r c, 1 ≤ fr_F r c
  | 0, c => Nat.succ_le_succ (Nat.zero_le c)
  | r + 1, 0 => Nat.le_refl 1
  | r + 1, c + 1 => by
    rw [fr_F1]
    omega
/-- one place further, nothing below -/
theorem fr_Fs : ∀ r c, fr_F r c + 1 ≤ fr_F r (c + 1)
  | 0, c => Nat.le_refl _
  | r + 1, c => by
    rw [fr_F1]
    omega
theorem fr_Fm (r : Nat) : ∀ c d, c ≤ d → fr_F r c ≤ fr_F r d := by
  intro c d
  induction d with
  | zero => intro h; rw [show c = 0 by omega]; exact Nat.le_refl _
  | succ d ih =>
    intro h
    by_cases e : c = d + 1
    · rw [e]; exact Nat.le_refl _
    · have := ih (by omega)
      have := fr_Fs r d
      omega
theorem fr_Fv : fr_F 0 31 ≤ 250000 ∧ fr_F 1 30 ≤ 250000 ∧ fr_F 2 29 ≤ 250000 ∧ fr_F 3 28 ≤ 250000 ∧ fr_F 4 27 ≤ 250000 := by decide +kernel
theorem fr_Fb {r c : Nat} (hr : r ≤ 4) (hc : c + r ≤ 31) : fr_F r c ≤ 250000 := by
  obtain ⟨v0, v1, v2, v3, v4⟩ := fr_Fv
  have e : r = 0 ∨ r = 1 ∨ r = 2 ∨ r = 3 ∨ r = 4 := by omega
  rcases e with rfl | rfl | rfl | rfl | rfl
  · exact Nat.le_trans (fr_Fm 0 c 31 (by omega)) v0
  · exact Nat.le_trans (fr_Fm 1 c 30 (by omega)) v1
  · exact Nat.le_trans (fr_Fm 2 c 29 (by omega)) v2
  · exact Nat.le_trans (fr_Fm 3 c 28 (by omega)) v3
  · exact Nat.le_trans (fr_Fm 4 c 27 (by omega)) v4
/-- steps that are left: the levels below d -/
def fr_P (k z : Nat) (Q : Nat → Nat) : Nat → Nat
  | 0 => 0
  | j + 1 => fr_P k z Q j + fr_F (z - 1 - j) (k + j + 1 - z - Q j)
theorem fr_PC {k z : Nat} {Q R : Nat → Nat} : ∀ j, (∀ i, i < j → Q i = R i) → fr_P k z Q j = fr_P k z R j
  | 0, _ => rfl
  | j + 1, h => by
    show fr_P k z Q j + fr_F (z - 1 - j) (k + j + 1 - z - Q j) = fr_P k z R j + fr_F (z - 1 - j) (k + j + 1 - z - R j)
    rw [fr_PC j (fun i hi => h i (by omega)), h j (by omega)]
theorem fr_Ps (k z : Nat) (Q : Nat → Nat) (j : Nat) : fr_P k z Q (j + 1) = fr_P k z Q j + fr_F (z - 1 - j) (k + j + 1 - z - Q j) := rfl
/-- Q with one place changed -/
def fr_up (Q : Nat → Nat) (d x : Nat) : Nat → Nat := fun j => if j = d then x else Q j
theorem fr_upS {Q : Nat → Nat} {d x : Nat} : fr_up Q d x d = x := if_pos rfl
theorem fr_upN {Q : Nat → Nat} {d x j : Nat} (h : j ≠ d) : fr_up Q d x j = Q j := if_neg h
/-- a cover to be found: places of the list -/
def fr_tgt (n : Nat) (E : Nat → Nat) (k : Nat) (S : Nat → Nat) (z : Nat) (T : Nat → Nat) : Prop :=
  (∀ j, j < z → T j < k) ∧ (∀ i j, i < j → j < z → T i < T j) ∧ fr_un (fun i => S (T i)) z = 2 ^ n - 1 ∧ fr_closed n E (fun i => S (T i)) z
theorem fr_tgtB {n k z : Nat} {E S T : Nat → Nat} (h : fr_tgt n E k S z T) : ∀ m j, j + m + 1 = z → T j + m < k := by
  obtain ⟨h1, h2, _, _⟩ := h
  intro m
  induction m with
  | zero => intro j hj; exact h1 j (by omega)
  | succ m ih =>
    intro j hj
    have a := ih (j + 1) (by omega)
    have b := h2 j (j + 1) (by omega) (by omega)
    omega
/-- the sets that are picked -/
def fr_C (S Q : Nat → Nat) : Nat → Nat := fun i => S (Q i - 1)
/-- the search at depth d behind u steps, ahead of the next pick; Q: one more than the pick. hT: a cover is to be found -/
def fr_I (k z : Nat) (S : Nat → Nat) (hT : Prop) (T : Nat → Nat) (Q : Nat → Nat) (d u : Nat) (a6 a7 : Nat → Int32) : Prop :=
  d < z ∧ (∀ j, j ≤ d → a6 j + 1 = nI (Q j)) ∧ Q d ≤ k ∧ (∀ j, j < d → 1 ≤ Q j ∧ Q j + z ≤ k + j + 1 ∧ a7 j = nI (fr_un (fr_C S Q) (j + 1))) ∧
  (∀ j, j + 1 < d → Q j < Q (j + 1)) ∧ (∀ j, j + 1 = d → Q j ≤ Q d) ∧ u + fr_P k z Q (d + 1) ≤ 250000 ∧
  (hT → ∃ j, j ≤ d ∧ (∀ i, i < j → Q i = T i + 1) ∧ Q j ≤ T j)
theorem fr_I0 {k z : Nat} {S T : Nat → Nat} {hT : Prop} {a6 a7 : Nat → Int32} (hz : 1 ≤ z) (hz5 : z ≤ 5) (hk : k ≤ 31) (h6 : a6 0 = -1) : fr_I k z S hT T (fun _ => 0) 0 0 a6 a7 := by
  refine ⟨by omega, ?_, Nat.zero_le k, fun j hj => absurd hj (by omega), fun j hj => absurd hj (by omega), fun j hj => absurd hj (by omega), ?_, fun _ => ⟨0, by omega, fun i hi => absurd hi (by omega), Nat.zero_le (T 0)⟩⟩
  · intro j hj
    rw [show j = 0 by omega, h6]
    decide
  · have h := fr_Fb (r := z - 1) (c := k + 0 + 1 - z - 0) (by omega) (by omega)
    show 0 + (0 + fr_F (z - 1 - 0) (k + 0 + 1 - z - 0)) ≤ 250000
    rw [Nat.sub_zero (z - 1)]
    omega
/-- back: no place is left at d + 1 -/
theorem fr_back {n k z d u : Nat} {E S T Q : Nat → Nat} {hT : Prop} {a6 a7 b6 : Nat → Int32} (h : fr_I k z S hT T Q (d + 1) u a6 a7) (ht : hT → fr_tgt n E k S z T) (hv : k + (d + 1) < Q (d + 1) + z)
    (hb : ∀ j, j ≤ d → b6 j = a6 j) : fr_I k z S hT T Q d (u + 1) b6 a7 := by
  obtain ⟨h1, h2, h3, h4, h5, h6, h7, h8⟩ := h
  refine ⟨by omega, fun j hj => by rw [hb j hj]; exact h2 j (by omega), ?_, fun j hj => h4 j (by omega), fun j hj => h5 j (by omega), ?_, ?_, ?_⟩
  · have := h4 d (by omega)
    omega
  · intro j hj
    subst hj
    exact Nat.le_of_lt (h5 j (by omega))
  · rw [fr_Ps] at h7
    have := fr_Fpos (z - 1 - (d + 1)) (k + (d + 1) + 1 - z - Q (d + 1))
    omega
  · intro t
    obtain ⟨j, j1, j2, j3⟩ := h8 t
    refine ⟨j, ?_, j2, j3⟩
    by_cases e : j = d + 1
    · subst e
      have := fr_tgtB (ht t) (z - (d + 1) - 1) (d + 1) (by omega)
      omega
    · omega
/-- the last place: no cover is left -/
theorem fr_none {n k z u : Nat} {E S T Q : Nat → Nat} {hT : Prop} {a6 a7 : Nat → Int32} (h : fr_I k z S hT T Q 0 u a6 a7) (ht : hT → fr_tgt n E k S z T) (hv : k + 0 < Q 0 + z) : ¬ hT := by
  obtain ⟨h1, h2, h3, h4, h5, h6, h7, h8⟩ := h
  intro t
  obtain ⟨j, j1, j2, j3⟩ := h8 t
  have e : j = 0 := by omega
  subst e
  have := fr_tgtB (ht t) (z - 1) 0 (by omega)
  omega
/-- a pick at d: what stands behind it -/
theorem fr_pick {k z d u : Nat} {S T Q : Nat → Nat} {hT : Prop} {a6 a7 : Nat → Int32} (h : fr_I k z S hT T Q d u a6 a7) (hv : Q d + z ≤ k + d) :
    (∀ j, j < d → fr_up Q d (Q d + 1) j = Q j) ∧ (∀ i j, i < j → j < d + 1 → fr_up Q d (Q d + 1) i < fr_up Q d (Q d + 1) j) ∧ (∀ j, j < d + 1 → 1 ≤ fr_up Q d (Q d + 1) j ∧ fr_up Q d (Q d + 1) j + z ≤ k + j + 1) := by
  obtain ⟨h1, h2, h3, h4, h5, h6, h7, h8⟩ := h
  have a : ∀ j, j < d → fr_up Q d (Q d + 1) j = Q j := fun j hj => fr_upN (by omega)
  have b : fr_up Q d (Q d + 1) d = Q d + 1 := fr_upS
  have c : ∀ i, i + 1 < d + 1 → fr_up Q d (Q d + 1) i < fr_up Q d (Q d + 1) (i + 1) := by
    intro i hi
    by_cases e : i + 1 = d
    · have q := h6 i e
      rw [e, b, a i (by omega)]
      omega
    · rw [a i (by omega), a (i + 1) (by omega)]
      exact h5 i (by omega)
  refine ⟨a, ?_, ?_⟩
  · intro i j hij
    induction j with
    | zero => omega
    | succ j ih =>
      intro hj
      by_cases e : i = j
      · subst e
        exact c i hj
      · exact Nat.lt_trans (ih (by omega) (by omega)) (c j hj)
  · intro j hj
    by_cases e : j = d
    · subst e
      rw [b]
      omega
    · rw [a j (by omega)]
      have := h4 j (by omega)
      omega
/-- the union at d -/
theorem fr_unPick {k z d u : Nat} {S T Q : Nat → Nat} {hT : Prop} {a6 a7 : Nat → Int32} (h : fr_I k z S hT T Q d u a6 a7) (hv : Q d + z ≤ k + d) :
    fr_un (fr_C S (fr_up Q d (Q d + 1))) (d + 1) = fr_un (fr_C S Q) d ||| S (Q d) := by
  show fr_un (fr_C S (fr_up Q d (Q d + 1))) d ||| S (fr_up Q d (Q d + 1) d - 1) = _
  rw [fr_upS, Nat.add_sub_cancel]
  rw [fr_unC (D := fr_C S Q) d (fun i hi => by unfold fr_C; rw [fr_upN (by omega)])]
/-- the search stays at d -/
theorem fr_stay {k z d u : Nat} {S T Q : Nat → Nat} {hT : Prop} {a6 a7 b6 b7 : Nat → Int32} (h : fr_I k z S hT T Q d u a6 a7) (hv : Q d + z ≤ k + d)
    (hb : ∀ j, j < d → b6 j = a6 j) (hd : b6 d = nI (Q d)) (h7 : ∀ j, j < d → b7 j = a7 j) (hne : hT → ¬ (∀ i, i < d + 1 → fr_up Q d (Q d + 1) i = T i + 1)) : fr_I k z S hT T (fr_up Q d (Q d + 1)) d (u + 1) b6 b7 := by
  obtain ⟨p1, p2, p3⟩ := fr_pick h hv
  obtain ⟨h1, h2, h3, h4, h5, h6, hp, h8⟩ := h
  refine ⟨h1, ?_, ?_, ?_, ?_, ?_, ?_, ?_⟩
  · intro j hj
    by_cases e : j = d
    · subst e
      rw [hd, fr_upS, nI_1]
    · rw [hb j (by omega), p1 j (by omega)]
      exact h2 j hj
  · rw [fr_upS]
    omega
  · intro j hj
    refine ⟨(p3 j (by omega)).1, (p3 j (by omega)).2, ?_⟩
    rw [h7 j hj, (h4 j hj).2.2, fr_unC (C := fr_C S (fr_up Q d (Q d + 1))) (D := fr_C S Q) (j + 1) (fun i hi => by unfold fr_C; rw [p1 i (by omega)])]
  · intro j hj
    exact p2 j (j + 1) (by omega) (by omega)
  · intro j hj
    exact Nat.le_of_lt (p2 j d (by omega) (by omega))
  · rw [fr_Ps] at hp ⊢
    rw [fr_PC (Q := fr_up Q d (Q d + 1)) (R := Q) d p1, fr_upS]
    have e : k + d + 1 - z - Q d = (k + d + 1 - z - (Q d + 1)) + 1 := by omega
    rw [e] at hp
    have := fr_Fs (z - 1 - d) (k + d + 1 - z - (Q d + 1))
    omega
  · intro t
    obtain ⟨j, j1, j2, j3⟩ := h8 t
    by_cases e : j = d
    · subst e
      by_cases g : Q j = T j
      · refine absurd ?_ (hne t)
        intro i hi
        by_cases e' : i = j
        · subst e'
          rw [fr_upS, g]
        · rw [p1 i (by omega)]
          exact j2 i (by omega)
      · refine ⟨j, j1, fun i hi => by rw [p1 i hi]; exact j2 i hi, ?_⟩
        rw [fr_upS]
        omega
    · exact ⟨j, j1, fun i hi => by rw [p1 i (by omega)]; exact j2 i hi, by rw [p1 j (by omega)]; exact j3⟩
/-- the search goes down -/
theorem fr_down {n k z d u : Nat} {E S T Q : Nat → Nat} {hT : Prop} {a6 a7 b6 b7 : Nat → Int32} (h : fr_I k z S hT T Q d u a6 a7) (ht : hT → fr_tgt n E k S z T) (hv : Q d + z ≤ k + d) (hz : d + 1 < z)
    (hb : ∀ j, j < d → b6 j = a6 j) (hd : b6 d = nI (Q d)) (hd' : b6 (d + 1) = nI (Q d)) (h7 : ∀ j, j < d → b7 j = a7 j) (h7' : b7 d = nI (fr_un (fr_C S (fr_up Q d (Q d + 1))) (d + 1))) :
    fr_I k z S hT T (fr_up (fr_up Q d (Q d + 1)) (d + 1) (Q d + 1)) (d + 1) (u + 1) b6 b7 := by
  obtain ⟨p1, p2, p3⟩ := fr_pick h hv
  obtain ⟨h1, h2, h3, h4, h5, h6, hp, h8⟩ := h
  have r1 : ∀ j, j < d + 1 → fr_up (fr_up Q d (Q d + 1)) (d + 1) (Q d + 1) j = fr_up Q d (Q d + 1) j := fun j hj => fr_upN (by omega)
  have r2 : fr_up (fr_up Q d (Q d + 1)) (d + 1) (Q d + 1) (d + 1) = Q d + 1 := fr_upS
  have r3 : fr_up Q d (Q d + 1) d = Q d + 1 := fr_upS
  refine ⟨hz, ?_, ?_, ?_, ?_, ?_, ?_, ?_⟩
  · intro j hj
    by_cases e : j = d + 1
    · subst e
      rw [hd', r2, nI_1]
    · rw [r1 j (by omega)]
      by_cases e' : j = d
      · subst e'
        rw [hd, r3, nI_1]
      · rw [hb j (by omega), p1 j (by omega)]
        exact h2 j (by omega)
  · rw [r2]
    omega
  · intro j hj
    rw [r1 j hj, fr_unC (C := fr_C S (fr_up (fr_up Q d (Q d + 1)) (d + 1) (Q d + 1))) (D := fr_C S (fr_up Q d (Q d + 1))) (j + 1) (fun i hi => by unfold fr_C; rw [r1 i (by omega)])]
    refine ⟨(p3 j hj).1, (p3 j hj).2, ?_⟩
    by_cases e : j = d
    · subst e
      exact h7'
    · rw [h7 j (by omega), (h4 j (by omega)).2.2, fr_unC (C := fr_C S (fr_up Q d (Q d + 1))) (D := fr_C S Q) (j + 1) (fun i hi => by unfold fr_C; rw [p1 i (by omega)])]
  · intro j hj
    rw [r1 j (by omega), r1 (j + 1) hj]
    exact p2 j (j + 1) (by omega) hj
  · intro j hj
    have e : j = d := by omega
    subst e
    rw [r1 j (by omega), r2, r3]
    exact Nat.le_refl _
  · rw [fr_Ps, fr_Ps]
    rw [fr_Ps] at hp
    rw [fr_PC (Q := fr_up (fr_up Q d (Q d + 1)) (d + 1) (Q d + 1)) (R := Q) d (fun i hi => by rw [r1 i (by omega), p1 i hi]), r1 d (by omega), r2, r3]
    have e : k + d + 1 - z - Q d = (k + d + 1 - z - (Q d + 1)) + 1 := by omega
    have e1 : k + (d + 1) + 1 - z - (Q d + 1) = (k + d + 1 - z - (Q d + 1)) + 1 := by omega
    have e2 : z - 1 - d = (z - 1 - (d + 1)) + 1 := by omega
    rw [e, e2, fr_F1] at hp
    rw [e1, e2]
    omega
  · intro t
    obtain ⟨j, j1, j2, j3⟩ := h8 t
    by_cases e : j = d
    · subst e
      by_cases g : Q j = T j
      · refine ⟨j + 1, by omega, ?_, ?_⟩
        · intro i hi
          rw [r1 i hi]
          by_cases e' : i = j
          · subst e'
            rw [r3, g]
          · rw [p1 i (by omega)]
            exact j2 i (by omega)
        · rw [r2, g]
          exact (ht t).2.1 j (j + 1) (by omega) hz
      · refine ⟨j, by omega, fun i hi => by rw [r1 i (by omega), p1 i hi]; exact j2 i hi, ?_⟩
        rw [r1 j (by omega), r3]
        omega
    · exact ⟨j, by omega, fun i hi => by rw [r1 i (by omega), p1 i (by omega)]; exact j2 i hi, by rw [r1 j (by omega), p1 j (by omega)]; exact j3⟩
end
section
/-! findCover: the walk -/
theorem fr_lim {q k z d : Nat} (hq : q < 2 ^ 20) (hk : k < 2 ^ 20) (hz : z < 2 ^ 20) (hd : d < 2 ^ 20) : nI q ≤ nI k - nI z + nI d ↔ q + z ≤ k + d := by
  have e : nI k - nI z + nI d = nI (k + d) - nI z := by
    rw [← nI_add]
    generalize nI k = a
    generalize nI z = b
    generalize nI d = c
    grind
  rw [e, Int32.le_iff_toInt_le, pk_sub_toInt (by omega) (by omega), nI_toInt (by omega)]
  omega
theorem fr_dec {x : Int32} {q : Nat} (h : x + 1 = nI q) (hq : 1 ≤ q) : x = nI (q - 1) := by
  rw [← fr_m1 hq, ← h]
  grind
/-- a pick and what follows -/
theorem fr_80 {post : Int32 → St2 → Prop} {J : Int32 → Int32 → Int32 → Int32 → Int32 → Int32 → Int32 → Int32 → Int32 → (Nat → Int32) → (Nat → Int32) → (Nat → Int32) → (Nat → Int32) → (Nat → Int32) → (Nat → Int32) → (Nat → Int32) → (Nat → Int32) → (Nat → Int32) → (Nat → Int32) → Prop} {n z d u p U R : Nat} {E C : Nat → Nat} {z0 : Int32} {nn sc lc cc cu st ic : Int32} {a1 a2 a3 a4 a5 a6 a7 a8 a9 a10 : Nat → Int32} (hn : n ≤ 5) (hf : nn = nI n) (hB : fr_B n E a1) (hz5 : z ≤ 5) (hd : d < z) (hu : u < 2 ^ 30)
    (h6 : a6 d = nI p) (hp : p < 31) (h7 : z0 ||| a3 p = nI U) (h4 : a4 (p + 1) = nI R) (hU : U < 2 ^ n) (hR : R < 2 ^ n)
    (hC : d + 1 = z → ∀ i, i < z → ∃ q, q < 31 ∧ a6 i = nI q ∧ a3 q = nI (C i) ∧ C i < 32)
    (H1 : d + 1 = z → U = 2 ^ n - 1 → fr_closed n E C z → ∀ b8 : Nat → Int32, (∀ i, i < z → b8 i = nI (C i)) → post 1 (nn, sc, lc, nI z, cu, st, ic, a1, a2, a3, a4, a5, a6, upd a7 d (nI U), b8, a9, a10))
    (H2 : d + 1 = z → ¬ (U = 2 ^ n - 1 ∧ fr_closed n E C z) → ∀ (c : Int32) (b8 : Nat → Int32), J (nI d) (nI (u + 1)) nn sc lc c cu st ic a1 a2 a3 a4 a5 a6 (upd a7 d (nI U)) b8 a9 a10)
    (H3 : d + 1 < z → J (nI (d + 1)) (nI (u + 1)) nn sc lc cc cu st ic a1 a2 a3 a4 a5 (upd a6 (d + 1) (nI p)) (upd a7 d (nI U)) a8 a9 a10)
    (H4 : d + 1 < z → ¬ U ||| R = 2 ^ n - 1 → J (nI d) (nI (u + 1)) nn sc lc cc cu st ic a1 a2 a3 a4 a5 a6 (upd a7 d (nI U)) a8 a9 a10) :
    wX_findCover_80 post J (nI z) (nI (2 ^ n - 1)) (nI d) (nI u) z0 nn sc lc cc cu st ic a1 a2 a3 a4 a5 a6 a7 a8 a9 a10 := by
  have hp5 := fr_pw n (by omega)
  have hUR := fr_orLt hU hR
  unfold wX_findCover_80
  rw [nI_clamp (show d < 2 ^ 31 by omega), h6, nI_clamp (show p < 2 ^ 31 by omega), h7, fr_m1 (show 1 ≤ z by omega), nI_1 p, nI_clamp (show p + 1 < 2 ^ 31 by omega), h4]
  refine And.intro (vp_in_nI (by omega) (by omega)) (And.intro (vp_in_nI (by omega) (by omega)) (And.intro (vp_in_nI (by omega) (by omega)) (nm_e ?_)))
  rw [pk_us (f := a7) (k := d) (x := nI U), fr_or]
  refine pk_eq d (z - 1) (fun e => ?_) (fun e => ?_)
  · refine And.intro (vp_in_nI (by omega) (by omega)) (pk_eq U (2 ^ n - 1) (fun g => ?_) (fun g => nm_r (nI_1 u) (H2 (by omega) (fun y => g y.1) cc a8)))
    refine fr_isClosed (C := C) hn hf hB hz5 (hC (by omega)) (fun hc b8 hb => ?_) (fun hc b8 => ?_)
    · exact br_f (by decide) (H1 (by omega) g hc b8 hb)
    · exact br_t rfl (nm_r (nI_1 u) (H2 (by omega) (fun y => hc y.2) (nI z) b8))
  · refine And.intro (vp_in_nI (by omega) (by omega)) (And.intro (vp_in_nI (by omega) (by omega)) (And.intro (vp_in_nI (by omega) (by omega)) ?_))
    refine pk_eq (U ||| R) (2 ^ n - 1) (fun g => nm_r (nI_1 d) ?_) (fun g => nm_r (nI_1 u) (H4 (by omega) g))
    rw [nI_pred, nI_clamp (show d < 2 ^ 31 by omega), nI_clamp (show d + 1 < 2 ^ 31 by omega), h6]
    exact And.intro (vp_in_nI (by omega) (by omega)) (And.intro (vp_in_nI (by omega) (by omega)) (nm_e (nm_r (nI_1 u) (H3 (by omega)))))
/-- the cover that stands at the end -/
def fr_cov (n : Nat) (E : Nat → Nat) (v : Nat → Int32) (c : Nat) (C : Nat → Nat) (a8 : Nat → Int32) : Prop :=
  1 ≤ c ∧ c ≤ 5 ∧ (∀ i, i < c → a8 i = nI (C i) ∧ 1 ≤ C i ∧ C i < 2 ^ n ∧ fr_holds n v (C i)) ∧ (∀ i j, i < j → j < c → C i < C j) ∧ fr_un C c = 2 ^ n - 1 ∧ fr_closed n E C c
/-- the target so far: what is picked and what comes later is everything -/
theorem fr_tgtAll {n k z d R : Nat} {E S T Q : Nat → Nat} (hn : n ≤ 5) (ht : fr_tgt n E k S z T) (hd : d < z) (hq : ∀ i, i < d + 1 → Q i = T i + 1)
    (hU : fr_un (fr_C S Q) (d + 1) < 2 ^ n) (hR : R < 2 ^ n) (hs : ∀ j, Q d ≤ j → j < k → S j &&& R = S j) : fr_un (fr_C S Q) (d + 1) ||| R = 2 ^ n - 1 := by
  obtain ⟨t1, t2, t3, t4⟩ := ht
  refine fr_fullE n (by omega) _ (fr_orLt hU hR) ?_
  rw [← t3]
  refine fr_unLe z ?_
  intro i hi
  by_cases g : i < d + 1
  · have e : S (T i) = fr_C S Q i := by
      unfold fr_C
      rw [hq i g, Nat.add_sub_cancel]
    show S (T i) &&& _ = S (T i)
    rw [e]
    exact fr_leL _ (fr_unIn (d + 1) g)
  · have a := t2 d i (by omega) hi
    have b := hq d (by omega)
    exact fr_leR _ (hs (T i) (by omega) (t1 i hi))
theorem fr_find {post : Int32 → St2 → Prop} {n k z : Nat} {E S T : Nat → Nat} {hT : Prop} {nn sc lc cc cu st ic : Int32} {a1 a2 a3 a4 a5 a6 a7 a8 a9 a10 : Nat → Int32} (hn : n ≤ 5) (hf : nn = nI n) (hB : fr_B n E a1) (hg : sc = nI k) (hS : fr_sets n a2 k S a3 a4) (hz : 1 ≤ z) (hz5 : z ≤ 5)
    (ht : hT → fr_tgt n E k S z T)
    (h1 : ∀ (C : Nat → Nat) (b6 b7 b8 : Nat → Int32), fr_cov n E a2 z C b8 → post 1 (nn, sc, lc, nI z, cu, st, ic, a1, a2, a3, a4, a5, b6, b7, b8, a9, a10))
    (h0 : ¬ hT → ∀ (c : Int32) (b6 b7 b8 : Nat → Int32), post 0 (nn, sc, lc, c, cu, st, ic, a1, a2, a3, a4, a5, b6, b7, b8, a9, a10)) : wpX_findCover post (nn, sc, lc, cc, cu, st, ic, a1, a2, a3, a4, a5, a6, a7, a8, a9, a10) (nI z) := by
  subst hf hg
  obtain ⟨s1, s2, s3, s4, s5⟩ := hS
  have hp5 := fr_pw n (by omega)
  have e0 : (1 : Int32) <<< (nI n &&& 31) - 1 = nI (2 ^ n - 1) := by rw [fr_shl n (by omega), fr_m1 (Nat.two_pow_pos n)]
  refine nm_r e0 (nm_e ?_)
  refine lp7 (fun f d u (Q : Nat → Nat) c b6 b7 b8 => wX_findCover_21 post (nI z) (nI (2 ^ n - 1)) f (nI d) (nI u) (nI n) (nI k) lc c cu st ic a1 a2 a3 a4 a5 b6 b7 b8 a9 a10) (fun d u Q _ b6 b7 _ => fr_I k z S hT T Q d u b6 b7) (fun _ u _ _ _ _ _ => 500000 - u) ?_ 0 0 (fun _ => 0) cc _ a7 a8 (fr_I0 hz hz5 s1 pk_us)
  intro f d u Q c b6 b7 b8 hI hw
  have hw' : ∀ (d' u' : Nat) (Q' : Nat → Nat) (c' : Int32) (b6' b7' b8' : Nat → Int32), fr_I k z S hT T Q' d' u' b6' b7' → 500000 - u' < 500000 - u → wX_findCover_21 post (nI z) (nI (2 ^ n - 1)) f (nI d') (nI u') (nI n) (nI k) lc c' cu st ic a1 a2 a3 a4 a5 b6' b7' b8' a9 a10 := hw
  have hI' : fr_I k z S hT T Q d u b6 b7 := hI
  obtain ⟨i1, i2, i3, i4, i5, i6, i7, i8⟩ := hI
  have hu : u ≤ 250000 := by omega
  have hlt : 500000 - (u + 1) < 500000 - u := by omega
  show wX_findCover_21 post (nI z) (nI (2 ^ n - 1)) (f + 1) (nI d) (nI u) (nI n) (nI k) lc c cu st ic a1 a2 a3 a4 a5 b6 b7 b8 a9 a10
  refine pk_le 500000 u (fun y => absurd y (by omega)) (fun _ => ?_)
  rw [nI_clamp (show d < 2 ^ 31 by omega), i2 d (Nat.le_refl d)]
  refine And.intro (vp_in_nI (by omega) (by omega)) (And.intro (vp_in_nI (by omega) (by omega)) (nm_e (And.intro (vp_in_nI (by omega) (by omega)) ?_)))
  rw [pk_us (f := b6) (k := d) (x := nI (Q d))]
  refine ek_if (fr_lim (by omega) (by omega) (by omega) (by omega)) (fun hv => ?_) (fun hv => ?_)
  · have hSd := s2 (Q d) (by omega)
    obtain ⟨R, hR, h4, hsub⟩ := s5 (Q d + 1) (by omega)
    obtain ⟨p1, p2, p3⟩ := fr_pick hI' hv
    have hun := fr_unPick hI' hv
    have r3 : fr_up Q d (Q d + 1) d = Q d + 1 := fr_upS
    have hCb : ∀ i, i < d + 1 → fr_C S (fr_up Q d (Q d + 1)) i < 2 ^ n := by
      intro i hi
      have := p3 i hi
      exact (s2 (fr_up Q d (Q d + 1) i - 1) (by omega)).2.2.1
    have hUlt := fr_unLt (n := n) (d + 1) hCb
    have go : ∀ z0, z0 = nI (fr_un (fr_C S Q) d) → wX_findCover_80 post (wX_findCover_21 post (nI z) (nI (2 ^ n - 1)) f) (nI z) (nI (2 ^ n - 1)) (nI d) (nI u) z0 (nI n) (nI k) lc c cu st ic a1 a2 a3 a4 a5 (upd b6 d (nI (Q d))) b7 b8 a9 a10 := by
      intro z0 hz0
      refine fr_80 (n := n) (p := Q d) (U := fr_un (fr_C S (fr_up Q d (Q d + 1))) (d + 1)) (R := R) (E := E) (C := fr_C S (fr_up Q d (Q d + 1))) hn rfl hB hz5 i1 (by omega) pk_us (by omega) (by rw [hz0, hSd.1, fr_or, hun]) h4 hUlt hR ?_ ?_ ?_ ?_ ?_
      · intro e i hi
        have q := p3 i (by omega)
        have q2 := s2 (fr_up Q d (Q d + 1) i - 1) (by omega)
        refine ⟨fr_up Q d (Q d + 1) i - 1, by omega, ?_, q2.1, Nat.lt_of_lt_of_le q2.2.2.1 hp5⟩
        by_cases e' : i = d
        · subst e'
          rw [pk_us, r3, Nat.add_sub_cancel]
        · rw [pk_un e', p1 i (by omega)]
          rw [p1 i (by omega)] at q
          exact fr_dec (i2 i (by omega)) q.1
      · intro e hU hcl b8' hb
        refine h1 (fr_C S (fr_up Q d (Q d + 1))) _ _ b8' ⟨hz, hz5, ?_, ?_, by rw [← e]; exact hU, hcl⟩
        · intro i hi
          have q := p3 i (by omega)
          exact ⟨hb i hi, (s2 (fr_up Q d (Q d + 1) i - 1) (by omega)).2⟩
        · intro i j hij hj
          have q1 := p3 i (by omega)
          have q2 := p3 j (by omega)
          have q3 := p2 i j hij (by omega)
          exact s3 _ _ (by omega) (by omega)
      · intro e hne c' b8'
        refine hw' d (u + 1) (fr_up Q d (Q d + 1)) c' _ _ b8' (fr_stay hI' hv (fun j hj => pk_un (by omega)) pk_us (fun j hj => pk_un (by omega)) ?_) hlt
        intro t hall
        have eC : ∀ i, i < z → S (T i) = fr_C S (fr_up Q d (Q d + 1)) i := by
          intro i hi
          unfold fr_C
          rw [hall i (by omega), Nat.add_sub_cancel]
        refine hne ⟨?_, fr_closedC eC (ht t).2.2.2⟩
        rw [e, ← (ht t).2.2.1]
        exact (fr_unC z eC).symm
      · intro e
        exact hw' (d + 1) (u + 1) _ c _ _ b8 (fr_down hI' ht hv e (fun j hj => by rw [pk_un (by omega), pk_un (by omega)]) (by rw [pk_un (by omega), pk_us]) pk_us (fun j hj => pk_un (by omega)) pk_us) hlt
      · intro e hne
        refine hw' d (u + 1) (fr_up Q d (Q d + 1)) c _ _ b8 (fr_stay hI' hv (fun j hj => pk_un (by omega)) pk_us (fun j hj => pk_un (by omega)) ?_) hlt
        intro t hall
        exact hne (fr_tgtAll hn (ht t) i1 hall hUlt hR (fun j h2 h3 => hsub j (by omega) h3))
    refine pk_le d 0 (fun e => go 0 ?_) (fun e => And.intro ?_ (go _ ?_))
    · rw [show d = 0 by omega]
      rfl
    · rw [fr_m1 (by omega)]
      exact vp_in_nI (by omega) (by omega)
    · rw [fr_m1 (by omega), nI_clamp (by omega), (i4 (d - 1) (by omega)).2.2, Nat.sub_add_cancel (by omega)]
  · cases d with
    | zero => exact nm_r (e' := -1) (by decide) (br_f (by decide) (h0 (fr_none hI' ht (by omega)) c _ b7 b8))
    | succ d => exact nm_r (pk_m1 d) (pk_le 0 d (fun _ => nm_r (nI_1 u) (hw' d (u + 1) Q c _ b7 b8 (fr_back hI' ht (by omega) (fun j hj => pk_un (by omega))) hlt)) (fun y => absurd y (by omega)))
/-- the sets of one are a cover -/
theorem fr_singles {n k : Nat} {E S : Nat → Nat} {v a3 a4 : Nat → Int32} (hn2 : 2 ≤ n) (hn : n ≤ 5) (hE : ∀ j, j < 10 → E j < 3 * (n + 1)) (hv : fr_lev n v) (hS : fr_sets n v k S a3 a4) : ∃ T, fr_tgt n E k S n T := by
  obtain ⟨s1, s2, s3, s4, s5⟩ := hS
  have ex : ∀ j, ∃ i, j < n → i < k ∧ S i = 2 ^ j := by
    intro j
    by_cases g : j < n
    · obtain ⟨i, hi⟩ := s4 (2 ^ j) (Nat.two_pow_pos j) (fr_pwLt g) (fr_one hv)
      exact ⟨i, fun _ => hi⟩
    · exact ⟨0, fun z => absurd z g⟩
  have key : ∀ T : Nat → Nat, (∀ j, j < n → T j < k ∧ S (T j) = 2 ^ j) → fr_tgt n E k S n T := by
    intro T hT
    refine ⟨fun j hj => (hT j hj).1, ?_, ?_, ?_⟩
    · intro i j hij hj
      rcases Nat.lt_or_ge (T i) (T j) with g | g
      · exact g
      · have a := (hT i (by omega)).2
        have b := (hT j hj).2
        have c := fr_pwLt hij
        rcases Nat.lt_or_ge (T j) (T i) with g2 | g2
        · have d := s3 (T j) (T i) g2 (hT i (by omega)).1
          omega
        · rw [show T i = T j by omega] at a
          omega
    · rw [fr_unC (D := fun i => 2 ^ i) n (fun i hi => (hT i hi).2)]
      exact fr_unP n (by omega)
    · intro i hi x hx
      have one : ∀ q, q ≤ n → fr_img E (2 ^ i) x q = 0 ∨ ∃ j, j < n ∧ fr_img E (2 ^ i) x q = 2 ^ j := by
        intro q
        induction q with
        | zero => intro _; exact Or.inl rfl
        | succ q ih =>
          intro hq
          by_cases g : (2 ^ i).testBit q = true ∧ 3 ≤ E (2 * q + x)
          · have e := fr_tbPow.mp g.1
            subst e
            have z0 : ∀ r, r ≤ i → fr_img E (2 ^ i) x r = 0 := by
              intro r
              induction r with
              | zero => intro _; rfl
              | succ r ihr =>
                intro hr
                rw [fr_imgF (fun y => by have y1 := fr_tbPow.mp y.1; omega)]
                exact ihr (by omega)
            have q1 := hE (2 * i + x) (by omega)
            have g2 := g.2
            refine Or.inr ⟨E (2 * i + x) / 3 - 1, by omega, ?_⟩
            rw [fr_imgT g.1 g.2, z0 i (Nat.le_refl i), Nat.zero_or]
          · rw [fr_imgF g]
            exact ih (by omega)
      show ∃ j, j < n ∧ fr_img E (S (T i)) x n &&& S (T j) = fr_img E (S (T i)) x n
      rw [(hT i hi).2]
      rcases one n (Nat.le_refl n) with g | ⟨j, hj, g⟩
      · rw [g]
        exact ⟨0, by omega, Nat.zero_and _⟩
      · rw [g]
        refine ⟨j, hj, ?_⟩
        rw [(hT j hj).2]
        exact fr_leS _
  exact ⟨fun j => Classical.choose (ex j), key _ (fun j hj => Classical.choose_spec (ex j) hj)⟩
end
section
/-! refresh: what stands behind it -/
/-- a machine whose lists are made -/
def fr_full (n : Nat) (nn lc cc cu : Int32) (a1 a2 a5 a8 : Nat → Int32) : Prop :=
  nn = nI n ∧ ¬ cu = 0 ∧ ∃ E, fr_B n E a1 ∧ fr_lev n a2 ∧ (∃ l, lc = nI l ∧ fr_lar n a2 l a5) ∧ ∃ c C, cc = nI c ∧ fr_cov n E a2 c C a8
/-- any machine between two calls -/
def fr_inv (n : Nat) (nn lc cc cu : Int32) (a1 a2 a5 a8 : Nat → Int32) : Prop :=
  nn = nI n ∧ (∃ E, fr_B n E a1) ∧ (¬ cu = 0 → fr_full n nn lc cc cu a1 a2 a5 a8)
theorem fr_fi {n : Nat} {nn lc cc cu : Int32} {a1 a2 a5 a8 : Nat → Int32} (h : fr_full n nn lc cc cu a1 a2 a5 a8) : fr_inv n nn lc cc cu a1 a2 a5 a8 := by
  obtain ⟨E, hB, _⟩ := h.2.2
  exact ⟨h.1, ⟨E, hB⟩, fun _ => h⟩
theorem fr_52 {post : St2 → Prop} {n c : Nat} {E C : Nat → Nat} {v : Nat → Int32} {nn sc lc cc cu st ic : Int32} {a1 a2 a3 a4 a5 a6 a7 a8 a9 a10 : Nat → Int32} (hn : n ≤ 5) (hf : nn = nI n) (hB : fr_B n E a1) (hg : cc = nI c) (hC : fr_cov n E v c C a8)
    (h : ∀ (r : Int32) (b9 b10 : Nat → Int32), post (nn, sc, lc, cc, cu, st, r, a1, a2, a3, a4, a5, a6, a7, a8, b9, b10)) : wX_refresh_52 post nn sc lc cc cu st ic a1 a2 a3 a4 a5 a6 a7 a8 a9 a10 := by
  have hp5 := fr_pw n (by omega)
  have h8 : ∀ i, i < c → a8 i = nI (C i) ∧ C i < 32 := fun i hi => ⟨(hC.2.2.1 i hi).1, Nat.lt_of_lt_of_le (hC.2.2.1 i hi).2.2.1 hp5⟩
  unfold wX_refresh_52
  refine fr_build hn hf hB hC.2.1 hg h8 (fun b9 b10 => ?_)
  exact fr_first (m := 1) hC.2.1 hg h8 (by omega) (fun _ _ _ => h _ b9 b10) (fun _ => h _ b9 b10)
theorem fr_27 {post : St2 → Prop} {n k : Nat} {E S : Nat → Nat} {nn sc lc cc cu st ic : Int32} {a1 a2 a3 a4 a5 a6 a7 a8 a9 a10 : Nat → Int32} (hn2 : 2 ≤ n) (hn : n ≤ 5) (hf : nn = nI n) (hB : fr_B n E a1) (hg : sc = nI k) (hv : fr_lev n a2) (hS : fr_sets n a2 k S a3 a4)
    (h : ∀ (c : Nat) (C : Nat → Nat) (r : Int32) (b6 b7 b8 b9 b10 : Nat → Int32), fr_cov n E a2 c C b8 → post (nn, sc, lc, nI c, cu, st, r, a1, a2, a3, a4, a5, b6, b7, b8, b9, b10)) : ∃ fu, wX_refresh_27 post fu 1 nn sc lc cc cu st ic a1 a2 a3 a4 a5 a6 a7 a8 a9 a10 := by
  subst hf
  obtain ⟨T, hT⟩ := fr_singles (E := E) hn2 hn (fun j hj => (hB j hj).1) hv hS
  have fin : ∀ (z : Nat) (C : Nat → Nat) (b6 b7 b8 : Nat → Int32), fr_cov n E a2 z C b8 → wX_refresh_52 post (nI n) sc lc (nI z) cu st ic a1 a2 a3 a4 a5 b6 b7 b8 a9 a10 :=
    fun z C b6 b7 b8 hC => fr_52 hn rfl hB rfl hC (fun r b9 b10 => h z C r b6 b7 b8 b9 b10 hC)
  refine pk_loop (σ := Int32 × (Nat → Int32) × (Nat → Int32) × (Nat → Int32)) (fun f i s => wX_refresh_27 post f (nI i) (nI n) sc lc s.1 cu st ic a1 a2 a3 a4 a5 s.2.1 s.2.2.1 s.2.2.2 a9 a10) (fun i _ => 1 ≤ i) n 1 (cc, a6, a7, a8) (by omega) (by omega) ?_ ?_
  · intro f s hi
    obtain ⟨c, b6, b7, b8⟩ := s
    show wX_refresh_27 post (f + 1) (nI n) (nI n) sc lc c cu st ic a1 a2 a3 a4 a5 b6 b7 b8 a9 a10
    refine pk_lt n n (fun y => absurd y (by omega)) (fun _ => ?_)
    exact fr_find (hT := True) hn rfl hB hg hS (by omega) hn (fun _ => hT) (fun C b6' b7' b8' hC => br_f (by decide) (fin n C b6' b7' b8' hC)) (fun y => absurd trivial y)
  · intro f i s hin hi hw
    have hi1 : 1 ≤ i := hi
    obtain ⟨c, b6, b7, b8⟩ := s
    have hw' : ∀ (c' : Int32) (b6' b7' b8' : Nat → Int32), wX_refresh_27 post f (nI (i + 1)) (nI n) sc lc c' cu st ic a1 a2 a3 a4 a5 b6' b7' b8' a9 a10 := fun c' b6' b7' b8' => hw (c', b6', b7', b8') (by omega)
    show wX_refresh_27 post (f + 1) (nI i) (nI n) sc lc c cu st ic a1 a2 a3 a4 a5 b6 b7 b8 a9 a10
    refine pk_lt n i (fun y => absurd y (by omega)) (fun _ => ?_)
    exact fr_find (T := T) (hT := False) hn rfl hB hg hS (by omega) (by omega) (fun y => absurd y id) (fun C b6' b7' b8' hC => br_f (by decide) (fin i C b6' b7' b8' hC)) (fun _ c' b6' b7' b8' => br_t rfl (nm_r (nI_1 i) (hw' c' b6' b7' b8')))
/-- nothing to do -/
theorem fr_ref1 {post : St2 → Prop} {nn sc lc cc cu st ic : Int32} {a1 a2 a3 a4 a5 a6 a7 a8 a9 a10 : Nat → Int32} (hc : ¬ cu = 0) (h : post (nn, sc, lc, cc, cu, st, ic, a1, a2, a3, a4, a5, a6, a7, a8, a9, a10)) : wpX_refresh post (nn, sc, lc, cc, cu, st, ic, a1, a2, a3, a4, a5, a6, a7, a8, a9, a10) := br_f hc h
theorem fr_refresh {post : St2 → Prop} {n : Nat} {nn sc lc cc cu st ic : Int32} {a1 a2 a3 a4 a5 a6 a7 a8 a9 a10 : Nat → Int32} (hn2 : 2 ≤ n) (hn : n ≤ 5) (hI : fr_inv n nn lc cc cu a1 a2 a5 a8)
    (h : ∀ (sc lc cc cu st ic : Int32) (a1 a2 a3 a4 a5 a6 a7 a8 a9 a10 : Nat → Int32), fr_full n nn lc cc cu a1 a2 a5 a8 → post (nn, sc, lc, cc, cu, st, ic, a1, a2, a3, a4, a5, a6, a7, a8, a9, a10)) : wpX_refresh post (nn, sc, lc, cc, cu, st, ic, a1, a2, a3, a4, a5, a6, a7, a8, a9, a10) := by
  obtain ⟨hf, ⟨E, hB⟩, hg⟩ := hI
  refine br_c (fun hc => ?_) (fun hc => h _ _ _ _ _ _ _ _ _ _ _ _ _ _ _ _ (hg hc))
  refine fr_levels hn2 hn hf hB (fun w hv => ?_)
  refine fr_list hn2 hn hf (fun k S b3 b4 hS => ?_)
  refine fr_largest hn2 hn rfl hv hS (fun l b5 hl => ?_)
  refine fr_27 hn2 hn hf hB rfl hv hS (fun c C r b6 b7 b8 b9 b10 hC => ?_)
  exact h _ _ _ _ _ _ _ _ _ _ _ _ _ _ _ _ ⟨hf, by decide, E, hB, hv, ⟨l, rfl, hl⟩, c, C, rfl, hC⟩
end
section
/-! the law's own methods -/
theorem fr_andI {a b : Nat} (ha : a < 32) (hb : b < 32) : (nI a &&& nI b) = nI b ↔ b &&& a = b := by
  have h : a &&& b ≤ b := Nat.and_le_right
  rw [fr_and, nI_eq (by omega) (by omega), Nat.and_comm]
theorem fr_csz {post : Int32 → St2 → Prop} {n : Nat} {nn sc lc cc cu st ic : Int32} {a1 a2 a3 a4 a5 a6 a7 a8 a9 a10 : Nat → Int32} (hn2 : 2 ≤ n) (hn : n ≤ 5) (hI : fr_inv n nn lc cc cu a1 a2 a5 a8)
    (h : ∀ (sc lc cc cu st ic : Int32) (a1 a2 a3 a4 a5 a6 a7 a8 a9 a10 : Nat → Int32), fr_full n nn lc cc cu a1 a2 a5 a8 → post cc (nn, sc, lc, cc, cu, st, ic, a1, a2, a3, a4, a5, a6, a7, a8, a9, a10)) : wpX_coverSize post (nn, sc, lc, cc, cu, st, ic, a1, a2, a3, a4, a5, a6, a7, a8, a9, a10) := by
  unfold wpX_coverSize
  exact fr_refresh hn2 hn hI h
theorem fr_maxs {post : Int32 → St2 → Prop} {n : Nat} {nn sc lc cc cu st ic : Int32} {a1 a2 a3 a4 a5 a6 a7 a8 a9 a10 : Nat → Int32} (hn2 : 2 ≤ n) (hn : n ≤ 5) (hI : fr_inv n nn lc cc cu a1 a2 a5 a8)
    (h : ∀ (sc lc cc cu st ic : Int32) (a1 a2 a3 a4 a5 a6 a7 a8 a9 a10 : Nat → Int32), fr_full n nn lc cc cu a1 a2 a5 a8 → post lc (nn, sc, lc, cc, cu, st, ic, a1, a2, a3, a4, a5, a6, a7, a8, a9, a10)) : wpX_maximals post (nn, sc, lc, cc, cu, st, ic, a1, a2, a3, a4, a5, a6, a7, a8, a9, a10) := by
  unfold wpX_maximals
  exact fr_refresh hn2 hn hI h
theorem fr_cset {post : Int32 → St2 → Prop} {i c : Nat} {x : Int32} {nn sc lc cc cu st ic : Int32} {a1 a2 a3 a4 a5 a6 a7 a8 a9 a10 : Nat → Int32} (hc : ¬ cu = 0) (hg : cc = nI c) (hc5 : c ≤ 5) (hi : i < c) (hx : a8 i = x) (h : post x (nn, sc, lc, cc, cu, st, ic, a1, a2, a3, a4, a5, a6, a7, a8, a9, a10)) : wpX_coverSet post (nn, sc, lc, cc, cu, st, ic, a1, a2, a3, a4, a5, a6, a7, a8, a9, a10) (nI i) := by
  subst hx
  unfold wpX_coverSet
  refine fr_ref1 hc ?_
  refine br_f (nI_pos (by omega)) (pk_le c i (fun z => absurd z (by omega)) (fun _ => And.intro (vp_in_nI (by omega) (by omega)) ?_) hg)
  rw [nI_clamp (by omega)]
  exact h
theorem fr_max1 {post : Int32 → St2 → Prop} {i l : Nat} {x : Int32} {nn sc lc cc cu st ic : Int32} {a1 a2 a3 a4 a5 a6 a7 a8 a9 a10 : Nat → Int32} (hc : ¬ cu = 0) (hg : lc = nI l) (hl : l ≤ 31) (hi : i < l) (hx : a5 i = x) (h : post x (nn, sc, lc, cc, cu, st, ic, a1, a2, a3, a4, a5, a6, a7, a8, a9, a10)) : wpX_maximal post (nn, sc, lc, cc, cu, st, ic, a1, a2, a3, a4, a5, a6, a7, a8, a9, a10) (nI i) := by
  subst hx
  unfold wpX_maximal
  refine fr_ref1 hc ?_
  refine br_f (nI_pos (by omega)) (pk_le l i (fun z => absurd z (by omega)) (fun _ => And.intro (vp_in_nI (by omega) (by omega)) ?_) hg)
  rw [nI_clamp (by omega)]
  exact h
theorem fr_within {post : Int32 → St2 → Prop} {c q : Nat} {C : Nat → Nat} {nn sc lc cc cu st ic : Int32} {a1 a2 a3 a4 a5 a6 a7 a8 a9 a10 : Nat → Int32} (hc : ¬ cu = 0) (hg : cc = nI c) (hc5 : c ≤ 5) (h8 : ∀ i, i < c → a8 i = nI (C i) ∧ C i < 32) (hq : q < 32)
    (hs : ∃ j, j < c ∧ q &&& C j = q) (h : post 1 (nn, sc, lc, cc, cu, st, ic, a1, a2, a3, a4, a5, a6, a7, a8, a9, a10)) : wpL_within post (nn, sc, lc, cc, cu, st, ic, a1, a2, a3, a4, a5, a6, a7, a8, a9, a10) (nI q) (nI c) := by
  refine pk_loop (σ := Unit) (fun f i _ => wL_within_2 post (nI q) (nI c) f (nI i) nn sc lc cc cu st ic a1 a2 a3 a4 a5 a6 a7 a8 a9 a10) (fun i _ => ∀ j, j < i → ¬ q &&& C j = q) c 0 () (by omega) (fun j hj => absurd hj (by omega)) ?_ ?_
  · intro f _ hI
    obtain ⟨j, hj, e⟩ := hs
    exact absurd e (hI j hj)
  · intro f i _ hi hI hw
    refine pk_le c i (fun z => absurd z (by omega)) (fun _ => ?_)
    refine fr_cset hc hg hc5 hi (h8 i hi).1 ?_
    refine ek_if (fr_andI (h8 i hi).2 hq) (fun _ => h) (fun b => nm_r (nI_1 i) (hw () ?_))
    intro j hj
    by_cases e : j = i
    · subst e
      exact b
    · exact hI j (by omega)
theorem fr_together {post : Int32 → St2 → Prop} {n l q : Nat} {nn sc lc cc cu st ic : Int32} {a1 a2 a3 a4 a5 a6 a7 a8 a9 a10 : Nat → Int32} (hn : n ≤ 5) (hc : ¬ cu = 0) (hg : lc = nI l) (hl : l ≤ 31) (h5 : ∀ i, i < l → ∃ m, a5 i = nI m ∧ m < 2 ^ n) (hq : q < 32)
    (h1 : (∃ j, j < l ∧ ∃ m, m < 2 ^ n ∧ a5 j = nI m ∧ q &&& m = q) → post 1 (nn, sc, lc, cc, cu, st, ic, a1, a2, a3, a4, a5, a6, a7, a8, a9, a10)) (h0 : ¬ (∃ j, j < l ∧ ∃ m, m < 2 ^ n ∧ a5 j = nI m ∧ q &&& m = q) → post 0 (nn, sc, lc, cc, cu, st, ic, a1, a2, a3, a4, a5, a6, a7, a8, a9, a10)) : wpL_together post (nn, sc, lc, cc, cu, st, ic, a1, a2, a3, a4, a5, a6, a7, a8, a9, a10) (nI q) (nI l) := by
  have hp5 := fr_pw n (by omega)
  refine pk_loop (σ := Unit) (fun f i _ => wL_together_2 post (nI q) (nI l) f (nI i) nn sc lc cc cu st ic a1 a2 a3 a4 a5 a6 a7 a8 a9 a10) (fun i _ => ∀ j, j < i → ¬ ∃ m, m < 2 ^ n ∧ a5 j = nI m ∧ q &&& m = q) l 0 () (by omega) (fun j hj => absurd hj (by omega)) ?_ ?_
  · intro f _ hI
    refine pk_le l l (fun _ => h0 ?_) (fun z => absurd z (by omega))
    rintro ⟨j, hj, e⟩
    exact hI j hj e
  · intro f i _ hi hI hw
    obtain ⟨m, hm, hm2⟩ := h5 i hi
    refine pk_le l i (fun z => absurd z (by omega)) (fun _ => ?_)
    refine fr_max1 hc hg hl hi hm ?_
    refine ek_if (fr_andI (by omega) hq) (fun b => h1 ⟨i, hi, m, hm2, hm, b⟩) (fun b => nm_r (nI_1 i) (hw () ?_))
    intro j hj
    by_cases e : j = i
    · subst e
      rintro ⟨m', g1, g2, g3⟩
      rw [hm, nI_eq (by omega) (by omega)] at g2
      subst g2
      exact b g3
    · exact hI j (by omega)
theorem fr_isSet {post : Int32 → Prop} {n m : Nat} {nn sc lc cc cu st ic : Int32} {a1 a2 a3 a4 a5 a6 a7 a8 a9 a10 : Nat → Int32} (hn : n ≤ 5) (hf : nn = nI n) (h1 : 1 ≤ m) (h2 : m < 2 ^ n) (h : post 1) : wpX_isSet post (nn, sc, lc, cc, cu, st, ic, a1, a2, a3, a4, a5, a6, a7, a8, a9, a10) (nI m) := by
  subst hf
  have hp5 := fr_pw n (by omega)
  exact pk_lt m 1 (fun z => absurd z (by omega)) (fun _ => pk_le (2 ^ n) m (fun z => absurd z (by omega)) (fun _ => h) (fr_shl n (by omega)))
theorem fr_cpset {post : Int32 → St2 → Prop} {n m : Nat} {nn sc lc cc cu st ic : Int32} {a1 a2 a3 a4 a5 a6 a7 a8 a9 a10 : Nat → Int32} (hn2 : 2 ≤ n) (hn : n ≤ 5) (hf : nn = nI n) (hc : ¬ cu = 0) (h1 : 1 ≤ m) (h2 : m < 2 ^ n) (hh : fr_holds n a2 m) (h : post 1 (nn, sc, lc, cc, cu, st, ic, a1, a2, a3, a4, a5, a6, a7, a8, a9, a10)) : wpX_compatibleSet post (nn, sc, lc, cc, cu, st, ic, a1, a2, a3, a4, a5, a6, a7, a8, a9, a10) (nI m) := by
  have hp5 := fr_pw n (by omega)
  unfold wpX_compatibleSet
  refine fr_isSet hn hf h1 h2 (br_f (by decide) (fr_ref1 hc ?_))
  exact fr_hold hn2 hn hf (by omega) (fun _ => br_f (by decide) h) (fun z => absurd hh z)
theorem fr_isInput {post : Int32 → Prop} {x : Nat} (hx : x < 2) (h : post 1) : wpX_isInput post () (nI x) :=
  pk_eq x 0 (fun _ => h) (fun _ => pk_eq x 1 (fun _ => h) (fun z => absurd z (by omega)))
theorem fr_implied {post : Int32 → Prop} {n m x : Nat} {E : Nat → Nat} {nn sc lc cc cu st ic : Int32} {a1 a2 a3 a4 a5 a6 a7 a8 a9 a10 : Nat → Int32} (hn : n ≤ 5) (hf : nn = nI n) (hB : fr_B n E a1) (h1 : 1 ≤ m) (h2 : m < 2 ^ n) (hx : x < 2) (h : post (nI (fr_img E m x n))) : wpX_implied post (nn, sc, lc, cc, cu, st, ic, a1, a2, a3, a4, a5, a6, a7, a8, a9, a10) (nI m) (nI x) := by
  have hp5 := fr_pw n (by omega)
  unfold wpX_implied
  refine fr_isSet hn hf h1 h2 (br_f (by decide) ?_)
  refine fr_isInput hx (br_f (by decide) ?_)
  exact fr_image hn hf hB (by omega) hx h
theorem fr_79 {post : Int32 → St2 → Prop} {J : Int32 → Int32 → Int32 → Int32 → Int32 → Int32 → Int32 → Int32 → Int32 → Int32 → (Nat → Int32) → (Nat → Int32) → (Nat → Int32) → (Nat → Int32) → (Nat → Int32) → (Nat → Int32) → (Nat → Int32) → (Nat → Int32) → (Nat → Int32) → (Nat → Int32) → Prop} {n c i : Nat} {E C : Nat → Nat} {x1 x3 x4 : Int32} {nn sc lc cc cu st ic : Int32} {a1 a2 a3 a4 a5 a6 a7 a8 a9 a10 : Nat → Int32} (hn : n ≤ 5) (hf : nn = nI n) (hB : fr_B n E a1) (hc : ¬ cu = 0) (hg : cc = nI c) (hC : fr_cov n E a2 c C a8) (hi : i < c)
    (h : J x3 x4 (nI (i + 1)) nn sc lc cc cu st ic a1 a2 a3 a4 a5 a6 a7 a8 a9 a10) : ∃ fu, wL_covered_79 post J x1 (nI c) x3 x4 (nI i) (nI (C i)) fu 0 nn sc lc cc cu st ic a1 a2 a3 a4 a5 a6 a7 a8 a9 a10 := by
  have hp5 := fr_pw n (by omega)
  have h8 : ∀ i, i < c → a8 i = nI (C i) ∧ C i < 32 := fun i hi => ⟨(hC.2.2.1 i hi).1, Nat.lt_of_lt_of_le (hC.2.2.1 i hi).2.2.1 hp5⟩
  refine pk_loop (σ := Unit) (fun f x _ => wL_covered_79 post J x1 (nI c) x3 x4 (nI i) (nI (C i)) f (nI x) nn sc lc cc cu st ic a1 a2 a3 a4 a5 a6 a7 a8 a9 a10) (fun _ _ => True) 2 0 () (by omega) trivial ?_ ?_
  · intro f _ _
    exact pk_le 2 2 (fun _ => nm_r (nI_1 i) h) (fun z => absurd z (by omega))
  · intro f x _ hx _ hw
    have hil := fr_imgLt (m := C i) hn (fun j hj => (hB j hj).1) hx n (Nat.le_refl n)
    refine pk_le 2 x (fun z => absurd z (by omega)) (fun _ => ?_)
    refine fr_implied hn hf hB (hC.2.2.1 i hi).2.1 (hC.2.2.1 i hi).2.2.1 hx (br_f (nI_pos (by omega)) ?_)
    exact fr_within hc hg hC.2.1 h8 (by omega) (hC.2.2.2.2.2 i hi x hx) (br_f (by decide) (nm_r (nI_1 x) (hw () trivial)))
/-- the set ahead of place i -/
def fr_last (C : Nat → Nat) : Nat → Nat
  | 0 => 0
  | i + 1 => C i
theorem fr_covered {post : Int32 → St2 → Prop} {n : Nat} {nn sc lc cc cu st ic : Int32} {a1 a2 a3 a4 a5 a6 a7 a8 a9 a10 : Nat → Int32} (hn2 : 2 ≤ n) (hn : n ≤ 5) (hI : fr_inv n nn lc cc cu a1 a2 a5 a8)
    (h : ∀ (sc lc cc cu st ic : Int32) (a1 a2 a3 a4 a5 a6 a7 a8 a9 a10 : Nat → Int32), fr_full n nn lc cc cu a1 a2 a5 a8 → post 1 (nn, sc, lc, cc, cu, st, ic, a1, a2, a3, a4, a5, a6, a7, a8, a9, a10)) : wpL_covered post (nn, sc, lc, cc, cu, st, ic, a1, a2, a3, a4, a5, a6, a7, a8, a9, a10) (nI n) := by
  have hp5 := fr_pw n (by omega)
  unfold wpL_covered
  refine fr_csz hn2 hn hI ?_
  intro sc lc cc cu st ic a1 a2 a3 a4 a5 a6 a7 a8 a9 a10 hF
  have h' := h sc lc cc cu st ic a1 a2 a3 a4 a5 a6 a7 a8 a9 a10 hF
  obtain ⟨hf, hc, E, hB, hv, hl, c, C, hg, hC⟩ := hF
  have hC' := hC
  obtain ⟨c1, c5, c8, cs, cu', cl⟩ := hC
  refine pk_lt c 1 (fun z => absurd z (by omega)) (fun _ => pk_le c 31 (fun _ => ?_) (fun z => absurd z (by omega)) hg) hg
  subst hg
  refine pk_loop (σ := Unit) (fun f i _ => wL_covered_26 post (nI n) (nI c) f (nI (fr_last C i)) (nI (fr_un C i)) (nI i) nn sc lc (nI c) cu st ic a1 a2 a3 a4 a5 a6 a7 a8 a9 a10) (fun _ _ => True) c 0 () (by omega) trivial ?_ ?_
  · intro f _ _
    refine pk_le c c (fun _ => ?_) (fun z => absurd z (by omega))
    refine br_t ?_ h'
    rw [fr_shl n (by omega), fr_m1 (Nat.two_pow_pos n), cu']
  · intro f i _ hi _ hw
    have q := c8 i hi
    have hlast : fr_last C i < C i := by
      cases i with
      | zero => exact q.2.1
      | succ i => exact cs i (i + 1) (by omega) hi
    have hw' : wL_covered_26 post (nI n) (nI c) f (nI (fr_last C (i + 1))) (nI (fr_un C (i + 1))) (nI (i + 1)) nn sc lc (nI c) cu st ic a1 a2 a3 a4 a5 a6 a7 a8 a9 a10 := hw () trivial
    refine pk_le c i (fun z => absurd z (by omega)) (fun _ => ?_)
    refine fr_cset hc rfl c5 hi q.1 ?_
    refine pk_le (C i) (fr_last C i) (fun z => absurd z (by omega)) (fun _ => pk_le (2 ^ n) (C i) (fun z => absurd z (by omega)) (fun _ => ?_) (fr_shl n (by omega)))
    refine fr_cpset hn2 hn hf hc q.2.1 q.2.2.1 q.2.2.2 (br_t rfl (nm_r (fr_or _ _) ?_))
    exact fr_79 hn hf hB hc rfl hC' hi hw'
theorem fr_isState {post : Int32 → Prop} {n s : Nat} {nn sc lc cc cu st ic : Int32} {a1 a2 a3 a4 a5 a6 a7 a8 a9 a10 : Nat → Int32} (hn : n ≤ 5) (hf : nn = nI n) (hs : s < n) (h : post 1) : wpX_isState post (nn, sc, lc, cc, cu, st, ic, a1, a2, a3, a4, a5, a6, a7, a8, a9, a10) (nI s) :=
  br_f (nI_pos (by omega)) (pk_le n s (fun z => absurd z (by omega)) (fun _ => h) hf)
theorem fr_compat {post : Int32 → St2 → Prop} {n s t : Nat} {nn sc lc cc cu st ic : Int32} {a1 a2 a3 a4 a5 a6 a7 a8 a9 a10 : Nat → Int32} (hn : n ≤ 5) (hf : nn = nI n) (hc : ¬ cu = 0) (hs : s < n) (ht : t < n)
    (h1 : a2 (5 * s + t) = 1000 → post 1 (nn, sc, lc, cc, cu, st, ic, a1, a2, a3, a4, a5, a6, a7, a8, a9, a10)) (h0 : ¬ a2 (5 * s + t) = 1000 → post 0 (nn, sc, lc, cc, cu, st, ic, a1, a2, a3, a4, a5, a6, a7, a8, a9, a10)) : wpX_compatible post (nn, sc, lc, cc, cu, st, ic, a1, a2, a3, a4, a5, a6, a7, a8, a9, a10) (nI s) (nI t) := by
  unfold wpX_compatible
  refine fr_isState hn hf hs (br_f (by decide) (fr_isState hn hf ht (br_f (by decide) (fr_ref1 hc ?_))))
  dsimp only
  rw [fr_5, nI_clamp (by omega)]
  exact And.intro (vp_in_nI (by omega) (by omega)) (br_c h1 h0)
/-- a pair as a set -/
theorem fr_two {n s t : Nat} {v : Nat → Int32} (hv : fr_lev n v) (h : v (5 * s + t) = 1000) (hs : s < n) (ht : t < n) : fr_holds n v (2 ^ s ||| 2 ^ t) := by
  intro p q hp hq hb hb'
  rw [Nat.testBit_or, Bool.or_eq_true, fr_tbPow, fr_tbPow] at hb hb'
  rcases hb with rfl | rfl <;> rcases hb' with rfl | rfl
  · exact hv.1 _ hs
  · exact h
  · rw [hv.2 _ _ ht hs]
    exact h
  · exact hv.1 _ ht
theorem fr_paired {post : Int32 → St2 → Prop} {n : Nat} {nn sc lc cc cu st ic : Int32} {a1 a2 a3 a4 a5 a6 a7 a8 a9 a10 : Nat → Int32} (hn2 : 2 ≤ n) (hn : n ≤ 5) (hI : fr_inv n nn lc cc cu a1 a2 a5 a8)
    (h : ∀ (sc lc cc cu st ic : Int32) (a1 a2 a3 a4 a5 a6 a7 a8 a9 a10 : Nat → Int32), fr_full n nn lc cc cu a1 a2 a5 a8 → post 1 (nn, sc, lc, cc, cu, st, ic, a1, a2, a3, a4, a5, a6, a7, a8, a9, a10)) : wpL_paired post (nn, sc, lc, cc, cu, st, ic, a1, a2, a3, a4, a5, a6, a7, a8, a9, a10) (nI n) := by
  have hp5 := fr_pw n (by omega)
  unfold wpL_paired
  refine fr_maxs hn2 hn hI ?_
  intro sc lc cc cu st ic a1 a2 a3 a4 a5 a6 a7 a8 a9 a10 hF
  have h' := h sc lc cc cu st ic a1 a2 a3 a4 a5 a6 a7 a8 a9 a10 hF
  obtain ⟨hf, hc, E, hB, hv, ⟨l, hg, l1, l31, l5, lall⟩, hcov⟩ := hF
  refine pk_lt l 1 (fun z => absurd z (by omega)) (fun _ => pk_le l 31 (fun _ => ?_) (fun z => absurd z (by omega)) hg) hg
  subst hg
  refine pk_loop (σ := Unit) (fun f s _ => wL_paired_20 post (nI n) (nI l) f (nI s) nn sc (nI l) cc cu st ic a1 a2 a3 a4 a5 a6 a7 a8 a9 a10) (fun _ _ => True) n 0 () (by omega) trivial ?_ ?_
  · intro f _ _
    exact pk_le n n (fun _ => h') (fun z => absurd z (by omega))
  · intro f s _ hs _ hw
    refine pk_le n s (fun z => absurd z (by omega)) (fun _ => ?_)
    refine pk_loop (σ := Unit) (fun g t _ => wL_paired_28 post (wL_paired_20 post (nI n) (nI l) f) (nI n) (nI l) (nI s) g (nI t) nn sc (nI l) cc cu st ic a1 a2 a3 a4 a5 a6 a7 a8 a9 a10) (fun _ _ => True) n 0 () (by omega) trivial ?_ ?_
    · intro g _ _
      exact pk_le n n (fun _ => nm_r (nI_1 s) (hw () trivial)) (fun z => absurd z (by omega))
    · intro g t _ ht _ hw2
      have hw3 : wL_paired_28 post (wL_paired_20 post (nI n) (nI l) f) (nI n) (nI l) (nI s) g (nI (t + 1)) nn sc (nI l) cc cu st ic a1 a2 a3 a4 a5 a6 a7 a8 a9 a10 := hw2 () trivial
      have hq : 2 ^ s ||| 2 ^ t < 2 ^ n := fr_orLt (fr_pwLt hs) (fr_pwLt ht)
      have hq1 : 1 ≤ 2 ^ s ||| 2 ^ t := Nat.le_trans (Nat.two_pow_pos s) Nat.left_le_or
      show wL_paired_28 post (wL_paired_20 post (nI n) (nI l) f) (nI n) (nI l) (nI s) (g + 1) (nI t) nn sc (nI l) cc cu st ic a1 a2 a3 a4 a5 a6 a7 a8 a9 a10
      refine pk_le n t (fun z => absurd z (by omega)) (fun _ => ?_)
      rw [fr_shl s (by omega), fr_shl t (by omega), fr_or]
      refine fr_together (n := n) hn hc rfl l31 (fun i hi => ?_) (by omega) (fun b => ?_) (fun b => ?_)
      · obtain ⟨m, m1, m2, _⟩ := l5 i hi
        exact ⟨m, m1, m2⟩
      · refine fr_compat hn hf hc hs ht (fun _ => br_f (by decide) (br_t rfl (nm_r (nI_1 t) hw3))) (fun z => absurd ?_ z)
        obtain ⟨j, hj, m, m1, m2, m3⟩ := b
        obtain ⟨m', g1, g2, g3⟩ := l5 j hj
        rw [m2, nI_eq (by omega) (by omega)] at g1
        subst g1
        have k1 := fr_le.mp m3 s (by rw [Nat.testBit_or, fr_tbPow.mpr rfl]; rfl)
        have k2 := fr_le.mp m3 t (by rw [Nat.testBit_or, fr_tbPow.mpr rfl, Bool.or_true])
        exact g3 s t hs ht k1 k2
      · refine fr_compat hn hf hc hs ht (fun z => absurd ?_ b) (fun _ => br_t rfl (br_t rfl (nm_r (nI_1 t) hw3)))
        exact lall _ hq1 hq (fr_two hv z hs ht)
theorem fr_set {post : Int32 → St2 → Prop} {n s x e : Nat} {nn sc lc cc cu st ic : Int32} {a1 a2 a3 a4 a5 a6 a7 a8 a9 a10 : Nat → Int32} (hn : n ≤ 5) (hf : nn = nI n) (hs : s < n) (hx : x < 2) (he : e < 3 * (n + 1))
    (h : ∀ r, post r (nn, sc, lc, cc, 0, 0, ic, upd a1 (2 * s + x) (nI e), a2, a3, a4, a5, a6, a7, a8, a9, a10)) : wpX_set post (nn, sc, lc, cc, cu, st, ic, a1, a2, a3, a4, a5, a6, a7, a8, a9, a10) (nI s) (nI x) (nI e) := by
  have e3 : (3 : Int32) * (nn + 1) = nI (3 * (n + 1)) := by
    rw [hf, nI_1]
    exact pk_mul 3 (n + 1)
  unfold wpX_set
  refine fr_isState hn hf hs (br_f (by decide) (fr_isInput hx (br_f (by decide) (br_f (nI_pos (by omega)) ?_))))
  refine pk_lt e (3 * (n + 1)) (fun _ => ?_) (fun z => absurd z (by omega)) (hy := e3)
  rw [fr_2, nI_clamp (by omega)]
  exact And.intro (vp_in_nI (by omega) (by omega)) (nm_e (And.intro (vp_in_nI (by omega) (by omega)) (nm_e (h _))))
theorem fr_cell {post : Int32 → Prop} {L j : Nat} {xs : Nat → Int32} {p : Int32} (hL : L ≤ 260) (hj : j < 1000) (hp : p = nI j) (h : ∀ r, post r) : wpL_cell post L xs () p := by
  subst hp
  exact pk_le L j (fun _ => h _) (fun z => And.intro (vp_in_nI (by omega) (by omega)) (h _))
theorem fr_99 {L : Nat} {xs : Nat → Int32} {J : Int32 → Int32 → Int32 → Int32 → Int32 → Int32 → Int32 → Int32 → (Nat → Int32) → (Nat → Int32) → (Nat → Int32) → (Nat → Int32) → (Nat → Int32) → (Nat → Int32) → (Nat → Int32) → (Nat → Int32) → (Nat → Int32) → (Nat → Int32) → Prop} {n j : Nat} {x4 : Int32} {kc ks : Nat} {nn sc lc cc cu st ic : Int32} {a1 a2 a3 a4 a5 a6 a7 a8 a9 a10 : Nat → Int32} (hn2 : 2 ≤ n) (hn : n ≤ 5) (hI : fr_inv n nn lc cc cu a1 a2 a5 a8)
    (h : ∀ (nn sc lc cc cu st ic : Int32) (a1 a2 a3 a4 a5 a6 a7 a8 a9 a10 : Nat → Int32), fr_inv n nn lc cc cu a1 a2 a5 a8 → J (nI (j + 2)) nn sc lc cc cu st ic a1 a2 a3 a4 a5 a6 a7 a8 a9 a10) : wL_law_99 (fun r => r = 1) L xs J (nI n) (nI j) x4 kc ks nn sc lc cc cu st ic a1 a2 a3 a4 a5 a6 a7 a8 a9 a10 := by
  unfold wL_law_99
  refine br_c (fun _ => ?_) (fun _ => nm_r (nI_add j 2) (h _ _ _ _ _ _ _ _ _ _ _ _ _ _ _ _ _ hI))
  refine fr_paired hn2 hn hI (fun sc lc cc cu st ic a1 a2 a3 a4 a5 a6 a7 a8 a9 a10 hF => ?_)
  exact br_f (by decide) (nm_r (nI_add j 2) (h _ _ _ _ _ _ _ _ _ _ _ _ _ _ _ _ _ (fr_fi hF)))
theorem fr_33 (n : Nat) : (3 : Int32) * nI n + 3 = nI (3 * n + 3) := by
  show nI 3 * nI n + nI 3 = _
  rw [pk_mul, nI_add]
theorem fr_21 {L n : Nat} {xs : Nat → Int32} {kc ks : Nat} {nn sc lc cc cu st ic : Int32} {a1 a2 a3 a4 a5 a6 a7 a8 a9 a10 : Nat → Int32} (hL : L ≤ 260) (hn2 : 2 ≤ n) (hn : n ≤ 5) (hI : fr_inv n nn lc cc cu a1 a2 a5 a8) : ∃ fu, wL_law_21 (fun r => r = 1) L xs (nI n) kc ks fu 1 nn sc lc cc cu st ic a1 a2 a3 a4 a5 a6 a7 a8 a9 a10 := by
  refine pk_loop (σ := St2) (fun f i u => match u with | (nn, sc, lc, cc, cu, st, ic, a1, a2, a3, a4, a5, a6, a7, a8, a9, a10) => wL_law_21 (fun r => r = 1) L xs (nI n) kc ks f (nI (2 * i + 1)) nn sc lc cc cu st ic a1 a2 a3 a4 a5 a6 a7 a8 a9 a10) (fun _ u => match u with | (nn, sc, lc, cc, cu, st, ic, a1, a2, a3, a4, a5, a6, a7, a8, a9, a10) => fr_inv n nn lc cc cu a1 a2 a5 a8) (L / 2) 0 (nn, sc, lc, cc, cu, st, ic, a1, a2, a3, a4, a5, a6, a7, a8, a9, a10) (by omega) hI ?_ ?_
  · intro f u hI
    obtain ⟨nn, sc, lc, cc, cu, st, ic, a1, a2, a3, a4, a5, a6, a7, a8, a9, a10⟩ := u
    have hI' : fr_inv n nn lc cc cu a1 a2 a5 a8 := hI
    show wL_law_21 (fun r => r = 1) L xs (nI n) kc ks (f + 1) (nI (2 * (L / 2) + 1)) nn sc lc cc cu st ic a1 a2 a3 a4 a5 a6 a7 a8 a9 a10
    refine pk_le L (2 * (L / 2) + 1) (fun _ => ?_) (fun z => absurd z (by omega))
    refine fr_covered hn2 hn hI' (fun sc lc cc cu st ic a1 a2 a3 a4 a5 a6 a7 a8 a9 a10 hF => br_f (by decide) ?_)
    exact fr_paired hn2 hn (fr_fi hF) (fun sc lc cc cu st ic a1 a2 a3 a4 a5 a6 a7 a8 a9 a10 hF => br_f (by decide) rfl)
  · intro f i u hi hI hw
    obtain ⟨nn, sc, lc, cc, cu, st, ic, a1, a2, a3, a4, a5, a6, a7, a8, a9, a10⟩ := u
    have hI' : fr_inv n nn lc cc cu a1 a2 a5 a8 := hI
    have hw' : ∀ (nn sc lc cc cu st ic : Int32) (a1 a2 a3 a4 a5 a6 a7 a8 a9 a10 : Nat → Int32), fr_inv n nn lc cc cu a1 a2 a5 a8 → wL_law_21 (fun r => r = 1) L xs (nI n) kc ks f (nI (2 * i + 1 + 2)) nn sc lc cc cu st ic a1 a2 a3 a4 a5 a6 a7 a8 a9 a10 := fun nn sc lc cc cu st ic a1 a2 a3 a4 a5 a6 a7 a8 a9 a10 hh => hw (nn, sc, lc, cc, cu, st, ic, a1, a2, a3, a4, a5, a6, a7, a8, a9, a10) hh
    show wL_law_21 (fun r => r = 1) L xs (nI n) kc ks (f + 1) (nI (2 * i + 1)) nn sc lc cc cu st ic a1 a2 a3 a4 a5 a6 a7 a8 a9 a10
    refine pk_le L (2 * i + 1) (fun z => absurd z (by omega)) (fun _ => ?_)
    refine fr_cell hL (show 2 * i + 1 < 1000 by omega) rfl (fun r => ?_)
    refine fr_cell hL (show 2 * i + 1 + 1 < 1000 by omega) (nI_1 _) (fun r' => ?_)
    obtain ⟨j, hj, ej⟩ := pk_andE r (m := 7) 3 (by decide)
    obtain ⟨w, hww, ew⟩ := pk_andE r' (m := 65535) 16 (by decide)
    obtain ⟨x, hx, ex⟩ := pk_andE (r >>> ((3 : Int32) &&& 31)) (m := 1) 1 (by decide)
    have hm1 : j % n < n := Nat.mod_lt _ (by omega)
    have hm2 : w % (3 * n + 3) < 3 * n + 3 := Nat.mod_lt _ (by omega)
    refine nm_r ew (And.intro (nI_ne0 (by omega) (by omega)) (nm_r (e' := nI (j % n)) (by rw [ej, pk_rem (by omega) (by omega) (by omega)]) (And.intro (by rw [fr_33]; exact nI_ne0 (by omega) (by omega)) (nm_r (e' := nI (w % (3 * n + 3))) (by rw [fr_33, pk_rem (by omega) (by omega) (by omega)]) ?_))))
    rw [ex]
    obtain ⟨hf, ⟨E, hB⟩, hg⟩ := hI'
    refine fr_set hn hf hm1 hx (by omega) (fun r9 => ?_)
    have hI2 : fr_inv n nn lc cc 0 (upd a1 (2 * (j % n) + x) (nI (w % (3 * n + 3)))) a2 a5 a8 := by
      refine ⟨hf, ⟨fun q => if q = 2 * (j % n) + x then w % (3 * n + 3) else E q, ?_⟩, fun z => absurd rfl z⟩
      intro q hq
      by_cases e : q = 2 * (j % n) + x
      · subst e
        rw [pk_us]
        simp only [if_true]
        exact ⟨by omega, by trivial⟩
      · rw [pk_un e]
        simp only [if_neg e]
        exact hB q hq
    refine br_c (fun _ => ?_) (fun _ => fr_99 hn2 hn hI2 hw')
    refine fr_covered hn2 hn hI2 (fun sc lc cc cu st ic a1 a2 a3 a4 a5 a6 a7 a8 a9 a10 hF => br_f (by decide) ?_)
    exact fr_99 hn2 hn (fr_fi hF) hw'
end
section
/-! the law -/
theorem i_vc (xs : Nat → Int32) (L : Nat) (hL : L ≤ 260) : wpL_law (fun r => r = 1) L xs := by
  unfold wpL_law
  refine fr_cell (j := 0) hL (by omega) rfl (fun r => ?_)
  obtain ⟨j, hj, ej⟩ := pk_andE r (m := 3) 2 (by decide)
  refine nm_r (e' := nI (2 + j)) (by rw [ej]; exact nI_add 2 j) ⟨10, 166, by omega, by omega, ?_⟩
  unfold wpX_init
  dsimp only
  refine ⟨by omega, by omega, by omega, by omega, by omega, by omega, by omega, by omega, by omega, by omega, by omega, by omega, by omega, by omega, by omega, by omega, by omega, by omega, by omega, by omega, ?_⟩
  refine pk_le 2 (2 + j) (fun _ => ?_) (fun z => absurd z (by omega))
  refine pk_le (2 + j) 5 (fun _ => ?_) (fun z => absurd z (by omega))
  exact fr_21 hL (by omega) (by omega) ⟨rfl, ⟨fun _ => 0, fun q _ => ⟨show 0 < 3 * (2 + j + 1) by omega, rfl⟩⟩, fun z => absurd rfl z⟩
end
