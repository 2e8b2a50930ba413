section
/-- the part of place j where the one road joins p and q (no road: p = q) -/
def tj_pt (p q j : Nat) : Nat := if j = q then p else j
/-- the parity of the members of s below j whose part is a -/
def tj_par (f : Nat → Nat) (s a : Nat) : Nat → Nat
  | 0 => 0
  | j + 1 => if f j = a then tj_par f s a j ^^^ (s / 2 ^ j % 2) else tj_par f s a j
/-- 1 if no place below j has the part of k -/
def tj_fst (f : Nat → Nat) (k : Nat) : Nat → Nat
  | 0 => 1
  | j + 1 => if tj_fst f k j = 0 then 0 else if f j = f k then 0 else 1
/-- the number of parts -/
def tj_cnt (f : Nat → Nat) : Nat → Nat
  | 0 => 0
  | k + 1 => tj_cnt f k + tj_fst f k k
/-- the ends of the road -/
def tj_E (p q : Nat) : Nat := 2 ^ p ^^^ 2 ^ q
/-- a way's length, its roads -/
def tj_d (p q K i j : Nat) : Nat := if i = j then 0 else if (i = p ∧ j = q) ∨ (i = q ∧ j = p) then K else 268435456
def tj_v (p q i j : Nat) : Nat := if i = j then 0 else if (i = p ∧ j = q) ∨ (i = q ∧ j = p) then 1 else 0
/-- the state: n, count, the road -/
def tj_P (m c p q : Nat) (w : Int32) (a1 a2 a3 : Nat → Int32) : Prop := 2 ≤ m ∧ m ≤ 7 ∧ p < m ∧ q < m ∧ ((c = 0 ∧ p = q) ∨ (c = 1 ∧ a1 0 = nI p ∧ a2 0 = nI q ∧ a3 0 = w ∧ ¬ w < (-9) ∧ w ≤ 20))
/-- the answer of solve -/
def tj_R (c p q : Nat) (w : Int32) (s : Nat) : Int32 := if s = 0 then (if c = 1 ∧ p = q ∧ ¬ 0 ≤ w then 1 else 0) else if s = tj_E p q then 1 else -1
/-- the answer of best -/
def tj_B (c p q : Nat) (w : Int32) (s : Nat) : Int32 := if s = 0 then (if c = 1 ∧ p = q ∧ ¬ 0 ≤ w then w else 0) else if s = tj_E p q then w else -1000
/-- the cost of the one road -/
def tj_C (w : Int32) : Int32 := (4096 * w) + ((1 : Int32) <<< ((0 : Int32) &&& 31))

def tj_pb (p q s m : Nat) : Bool := decide (∀ a, a < m → ¬ tj_par (tj_pt p q) s a m = 1)
theorem tj_poss_b : ∀ m, m < 8 → ∀ p, p < m → ∀ q, q < m → ∀ s, s < 2 ^ m → tj_pb p q s m = (decide (s = 0) || decide (s = tj_E p q)) := by decide +kernel
theorem tj_poss (m : Nat) (hm : m < 8) (p : Nat) (hp : p < m) (q : Nat) (hq : q < m) (s : Nat) (hs : s < 2 ^ m) : (∀ a, a < m → ¬ tj_par (tj_pt p q) s a m = 1) ↔ (s = 0 ∨ s = tj_E p q) := by
  have h := tj_poss_b m hm p hp q hq s hs
  rw [tj_pb, Bool.eq_iff_iff, decide_eq_true_iff, Bool.or_eq_true, decide_eq_true_iff, decide_eq_true_iff] at h
  exact h
theorem tj_count : ∀ m, m < 8 → ∀ p, p < m → ∀ q, q < m → tj_cnt (tj_pt p q) m = if p = q then m else m - 1 := by decide +kernel
theorem tj_jn : ∀ m, m < 8 → (1 : Int32) <<< (((nI 0 - nI m) + nI m) &&& 31) = 1 ∧ (1 : Int32) <<< (((nI 1 - nI m) + nI m) &&& 31) = 2 ∧ (2 ≤ m → (1 : Int32) <<< (((nI 1 - nI m) + nI (m - 1)) &&& 31) = 1) := by decide +kernel
theorem tj_sh : ∀ j, j < 8 → (1 : Int32) <<< (nI j &&& 31) = nI (2 ^ j) := by decide +kernel
theorem tj_bit : ∀ s, s < 128 → ∀ j, j < 7 → ((nI s >>> (nI j &&& 31)) &&& 1) = nI (s / 2 ^ j % 2) := by decide +kernel
theorem tj_xor (a b : Nat) : nI a ^^^ nI b = nI (a ^^^ b) := by
  apply Int32.toBitVec_inj.1
  show BitVec.ofNat 32 a ^^^ BitVec.ofNat 32 b = BitVec.ofNat 32 (a ^^^ b)
  apply BitVec.eq_of_getLsbD_eq
  intro i hi
  simp [hi]
theorem tj_E_lt : ∀ m, m < 8 → ∀ p, p < m → ∀ q, q < m → tj_E p q < 2 ^ m := by decide +kernel
theorem tj_E_0 : ∀ p, p < 7 → ∀ q, q < 7 → (tj_E p q = 0 ↔ p = q) := by decide +kernel
theorem tj_E_I {p q : Nat} (hp : p < 7) (hq : q < 7) : ((1 : Int32) <<< (nI p &&& 31)) ^^^ ((1 : Int32) <<< (nI q &&& 31)) = nI (tj_E p q) := by
  rw [tj_sh p (by omega), tj_sh q (by omega), tj_xor]
  rfl
theorem tj_par_lt (f : Nat → Nat) (s a : Nat) : ∀ j, tj_par f s a j < 2 := by
  intro j
  induction j with
  | zero => exact Nat.zero_lt_two
  | succ j ih =>
    unfold tj_par
    split
    · exact Nat.xor_lt_two_pow (n := 1) ih (Nat.mod_lt _ (by omega))
    · exact ih
theorem tj_fst_le (f : Nat → Nat) (k : Nat) : ∀ j, tj_fst f k j ≤ 1 := by
  intro j
  induction j with
  | zero => exact Nat.le_refl 1
  | succ j ih =>
    unfold tj_fst
    split
    · exact Nat.zero_le 1
    · split
      · exact Nat.zero_le 1
      · exact Nat.le_refl 1
theorem tj_cnt_le (f : Nat → Nat) : ∀ j, tj_cnt f j ≤ j := by
  intro j
  induction j with
  | zero => exact Nat.le_refl 0
  | succ j ih =>
    have := tj_fst_le f j j
    unfold tj_cnt
    omega
theorem tj_pt_lt {p q j m : Nat} (hp : p < m) (hj : j < m) : tj_pt p q j < m := by
  unfold tj_pt
  split <;> omega
theorem tj_tri {p q K i j o : Nat} (hK : K ≤ 268435456) : tj_d p q K i j ≤ tj_d p q K i o + tj_d p q K o j := by
  unfold tj_d
  repeat' split
  all_goals omega
theorem tj_d_le {p q K i j : Nat} (hK : K ≤ 268435456) : tj_d p q K i j ≤ 268435456 := by
  unfold tj_d
  repeat' split
  all_goals omega
/-- the weight as one of thirty -/
theorem tj_w {w : Int32} (h1 : ¬ w < (-9)) (h2 : w ≤ 20) : ∃ k : Nat, k < 30 ∧ w = nI k - 9 := by
  have e9 : (-9 : Int32).toInt = -9 := by decide
  have e20 : (20 : Int32).toInt = 20 := by decide
  have e9' : (9 : Int32).toInt = 9 := by decide
  rw [Int32.lt_iff_toInt_lt, e9] at h1
  rw [Int32.le_iff_toInt_le, e20] at h2
  refine ⟨(w.toInt + 9).toNat, by omega, ?_⟩
  apply Int32.toInt_inj.1
  rw [Int32.toInt_sub, nI_toInt (by omega), e9', show (((w.toInt + 9).toNat : Nat) : Int) - 9 = w.toInt by omega]
  exact (Int.bmod_eq_of_le (by omega) (by omega)).symm
def tj_K (k : Nat) : Nat := if k < 9 then 4096 * (9 - k) - 1 else 4096 * (k - 9) + 1
theorem tj_Kt : ∀ k, k < 30 → 0 < tj_K k ∧ tj_K k < 268435456 ∧ ((0 ≤ nI k - 9 ∧ 0 ≤ tj_C (nI k - 9) ∧ tj_C (nI k - 9) = nI (tj_K k)) ∨ (¬ 0 ≤ nI k - 9 ∧ ¬ 0 ≤ tj_C (nI k - 9) ∧ -tj_C (nI k - 9) = nI (tj_K k))) := by decide +kernel
theorem tj_cost {w : Int32} (h1 : ¬ w < (-9)) (h2 : w ≤ 20) : ∃ K, 0 < K ∧ K < 268435456 ∧ ((0 ≤ w ∧ 0 ≤ tj_C w ∧ tj_C w = nI K) ∨ (¬ 0 ≤ w ∧ ¬ 0 ≤ tj_C w ∧ -tj_C w = nI K)) := by
  obtain ⟨k, hk, rfl⟩ := tj_w h1 h2
  exact ⟨tj_K k, tj_Kt k hk⟩
/-- the rest of a set, its greatest member -/
theorem tj_rest : ∀ i, i < 128 → ∀ t, t < 7 → ∀ j, j < 7 → (nI i &&& (((1 : Int32) <<< (nI t &&& 31)) ^^^ (-1))) &&& (((1 : Int32) <<< (nI j &&& 31)) ^^^ (-1)) = nI ((i &&& (127 - 2 ^ t)) &&& (127 - 2 ^ j)) := by decide +kernel
theorem tj_rest0 : ∀ t, t < 7 → ∀ j, j < 7 → (nI (tj_E t j) &&& (((1 : Int32) <<< (nI t &&& 31)) ^^^ (-1))) &&& (((1 : Int32) <<< (nI j &&& 31)) ^^^ (-1)) = nI 0 := by decide +kernel
theorem tj_sub0 : ∀ g, g < 128 → (nI g &&& (nI g ^^^ (-1))) = 0 := by decide +kernel
theorem tj_top : ∀ i, i < 128 → 0 < i → Nat.log2 i < 7 ∧ i / 2 ^ Nat.log2 i % 2 = 1 ∧ ∀ j, j < 7 → Nat.log2 i < j → i / 2 ^ j % 2 = 0 := by decide +kernel
theorem tj_topE : ∀ t, t < 7 → ∀ j, j < t → Nat.log2 (tj_E t j) = t := by decide +kernel
theorem tj_bitE : ∀ t, t < 7 → ∀ l, l < t → ∀ j, j < t → (tj_E t l / 2 ^ j % 2 = 1 ↔ j = l) := by decide +kernel
theorem tj_E_c (p q : Nat) : tj_E p q = tj_E q p := Nat.xor_comm _ _
end
section
theorem tj_P7 {m c p q : Nat} {w : Int32} {a1 a2 a3 : Nat → Int32} (h : tj_P m c p q w a1 a2 a3) : 2 ≤ m ∧ m ≤ 7 ∧ p < m ∧ q < m := ⟨h.1, h.2.1, h.2.2.1, h.2.2.2.1⟩
theorem tj_fill {f : Nat → Nat} {s : Nat → Int32} {i k : Nat} {x : Int32} (hk : k = i) (h : ∀ j, j < i → s j = nI (f j)) (hx : x = nI (f i)) : ∀ j, j < i + 1 → upd s k x j = nI (f j) := by
  intro j hj
  rw [hk]
  by_cases e : j = i
  · rw [e, pk_us, hx]
  · rw [pk_un e]
    exact h j (by omega)
/-- one road: the second loop's inner one -/
theorem tj_60 {post : St2 → Prop} {J : Int32 → (Nat → Int32) → (Nat → Int32) → (Nat → Int32) → (Nat → Int32) → (Nat → Int32) → (Nat → Int32) → (Nat → Int32) → (Nat → Int32) → (Nat → Int32) → Prop} {x1 fc fw : Int32} {m p q : Nat} {a1 a2 a3 a4 a5 a6 a7 a8 a9 : Nat → Int32} (hm : m ≤ 7) (hp : p < m) (hq : q < m) (h9 : ∀ j, j < m → a9 j = nI j)
    (H : ∀ a, (∀ j, j < m → a j = nI (tj_pt p q j)) → J (x1 + 1) a1 a2 a3 a4 a5 a6 a7 a8 a) : ∃ n, wX_findParts_60 post J x1 (nI p) (nI q) (nI m) fc fw n 0 a1 a2 a3 a4 a5 a6 a7 a8 a9 := by
  refine pk_loop (fun n i s => wX_findParts_60 post J x1 (nI p) (nI q) (nI m) fc fw n (nI i) a1 a2 a3 a4 a5 a6 a7 a8 s) (fun i s => (∀ j, j < i → s j = nI (tj_pt p q j)) ∧ ∀ j, i ≤ j → j < m → s j = nI j) m 0 a9 (by omega) ⟨fun j hj => absurd hj (by omega), fun j _ hj => h9 j hj⟩ ?_ ?_
  · intro n s h
    exact pk_le m m (fun _ => nm_e (H s h.1)) (fun z => absurd z (by omega))
  · intro n i s hi h hw
    have hc : (nI i).toNatClampNeg = i := nI_clamp (by omega)
    have hsi : s i = nI i := h.2 i (by omega) hi
    have hu : ∀ x, ∀ j, i + 1 ≤ j → j < m → upd s i x j = nI j := fun x j h1 h2 => by
      rw [pk_un (by omega)]
      exact h.2 j (by omega) h2
    refine pk_le m i (fun z => absurd z (by omega)) (fun _ => ⟨pk_in i 7 (by omega), ?_⟩)
    refine pk_eq i q (fun z => ⟨pk_in i 7 (by omega), nm_r (show upd s (nI i).toNatClampNeg (nI p) = upd s i (nI p) by rw [hc]) (nm_r (nI_1 i) (hw _ ⟨tj_fill rfl h.1 (by rw [tj_pt, if_pos z]), hu _⟩))⟩) (fun z => ⟨pk_in i 7 (by omega), pk_in i 7 (by omega), nm_r (show upd s (nI i).toNatClampNeg (s (nI i).toNatClampNeg) = upd s i (nI i) by rw [hc, hsi]) (nm_r (nI_1 i) (hw _ ⟨tj_fill rfl h.1 (by rw [tj_pt, if_neg z]), hu _⟩))⟩) (by rw [hc, hsi]) rfl (by omega) (by omega)
theorem tj_25 {post : St2 → Prop} {m c p q : Nat} {w fw : Int32} {a1 a2 a3 a4 a5 a6 a7 a8 a9 : Nat → Int32} (h : tj_P m c p q w a1 a2 a3) (h9 : ∀ j, j < m → a9 j = nI j)
    (H : ∀ a, (∀ j, j < m → a j = nI (tj_pt p q j)) → post (nI m, nI c, fw, a1, a2, a3, a4, a5, a6, a7, a8, a)) : ∃ n, wX_findParts_25 post (nI m) (nI c) fw n 0 a1 a2 a3 a4 a5 a6 a7 a8 a9 := by
  obtain ⟨h2, h7, hp, hq, ⟨rfl, rfl⟩ | ⟨rfl, e1, e2, e3, _⟩⟩ := h
  · refine ⟨1, pk_le 0 0 (fun _ => H a9 (fun j hj => ?_)) (fun z => absurd z (by omega))⟩
    rw [h9 j hj, tj_pt]
    split <;> simp_all
  · refine ⟨2, pk_le 1 0 (fun z => absurd z (by omega)) (fun _ => ⟨pk_in 0 12 (by omega), ?_⟩)⟩
    have ea : a1 (0 : Int32).toNatClampNeg = nI p := e1
    have eb : a2 (0 : Int32).toNatClampNeg = nI q := e2
    rw [ea, eb]
    refine ⟨pk_in p 7 (by omega), nm_r (show a9 (nI p).toNatClampNeg = nI p by rw [nI_clamp (by omega), h9 p hp]) ⟨pk_in 0 12 (by omega), pk_in q 7 (by omega), nm_r (show a9 (nI q).toNatClampNeg = nI q by rw [nI_clamp (by omega), h9 q hq]) ?_⟩⟩
    exact tj_60 h7 hp hq h9 (fun a ha => pk_le 1 1 (fun _ => H a ha) (fun z => absurd z (by omega)))
theorem tj_findParts {post : St2 → Prop} {m c p q : Nat} {w fw : Int32} {a1 a2 a3 a4 a5 a6 a7 a8 a9 : Nat → Int32} (h : tj_P m c p q w a1 a2 a3)
    (H : ∀ a, (∀ j, j < m → a j = nI (tj_pt p q j)) → post (nI m, nI c, fw, a1, a2, a3, a4, a5, a6, a7, a8, a)) : wpX_findParts post (nI m, nI c, fw, a1, a2, a3, a4, a5, a6, a7, a8, a9) := by
  have h7 := h.2.1
  exact pk_loop (fun n i s => wX_findParts_2 post (nI m) (nI c) fw n (nI i) a1 a2 a3 a4 a5 a6 a7 a8 s) (fun i s => ∀ j, j < i → s j = nI j) m 0 a9 (by omega) (fun j hj => absurd hj (by omega))
    (fun n s hs => pk_le m m (fun _ => tj_25 h hs H) (fun z => absurd z (by omega)))
    (fun n i s hi hs hw => pk_le m i (fun z => absurd z (by omega)) (fun _ => ⟨pk_in i 7 (by omega), nm_r (show upd s (nI i).toNatClampNeg (nI i) = upd s i (nI i) by rw [nI_clamp (by omega)]) (nm_r (nI_1 i) (hw _ (tj_fill (f := fun j => j) rfl hs rfl)))⟩))
/-- the parity of one part -/
theorem tj_p19 {post : Int32 → St2 → Prop} {J : Int32 → Prop} {x2 fc fw : Int32} {m s a : Nat} {f : Nat → Nat} {a1 a2 a3 a4 a5 a6 a7 a8 a9 : Nat → Int32} (hm : m ≤ 7) (hs : s < 2 ^ m) (ha : a < m) (hf : ∀ j, j < m → f j < m) (h9 : ∀ j, j < m → a9 j = nI (f j)) (hx : x2 = nI a)
    (H1 : tj_par f s a m = 1 → post 0 (nI m, fc, fw, a1, a2, a3, a4, a5, a6, a7, a8, a9)) (H0 : ¬ tj_par f s a m = 1 → J (nI (a + 1))) : ∃ n, wX_isPossible_19 post J (nI s) x2 (nI m) fc fw a1 a2 a3 a4 a5 a6 a7 a8 a9 n 0 0 := by
  subst hx
  have hs7 : s < 128 := Nat.lt_of_lt_of_le hs (Nat.pow_le_pow_right (by omega) hm)
  refine pk_loop (σ := Unit) (fun n i _ => wX_isPossible_19 post J (nI s) (nI a) (nI m) fc fw a1 a2 a3 a4 a5 a6 a7 a8 a9 n (nI (tj_par f s a i)) (nI i)) (fun _ _ => True) m 0 () (by omega) trivial ?_ ?_
  · intro n _ _
    have hl := tj_par_lt f s a m
    exact pk_le m m (fun _ => pk_eq (tj_par f s a m) 1 (fun z => H1 z) (fun z => nm_r (nI_1 a) (H0 z))) (fun z => absurd z (by omega))
  · intro n i _ hi _ hw
    have hw := hw () trivial
    have hc : (nI i).toNatClampNeg = i := nI_clamp (by omega)
    have hl := hf i hi
    refine pk_le m i (fun z => absurd z (by omega)) (fun _ => ⟨pk_in i 7 (by omega), ?_⟩)
    refine pk_eq (f i) a (fun z => nm_r (e' := nI (tj_par f s a (i + 1))) ?_ (nm_r (nI_1 i) hw)) (fun z => nm_r (e' := nI (tj_par f s a (i + 1))) ?_ (nm_r (nI_1 i) hw)) (by rw [hc, h9 i hi]) rfl (by omega) (by omega)
    · rw [tj_bit s hs7 i (by omega), tj_xor, tj_par, if_pos z]
    · rw [tj_par, if_neg z]
      exact (tj_xor _ 0).trans (by rw [Nat.xor_zero])
theorem tj_isPossible {post : Int32 → St2 → Prop} {m c p q s : Nat} {w fw : Int32} {a1 a2 a3 a4 a5 a6 a7 a8 a9 : Nat → Int32} (h : tj_P m c p q w a1 a2 a3) (hs : s < 2 ^ m)
    (H1 : (s = 0 ∨ s = tj_E p q) → ∀ a, post 1 (nI m, nI c, fw, a1, a2, a3, a4, a5, a6, a7, a8, a)) (H0 : ¬ (s = 0 ∨ s = tj_E p q) → ∀ a, post 0 (nI m, nI c, fw, a1, a2, a3, a4, a5, a6, a7, a8, a)) : wpX_isPossible post (nI m, nI c, fw, a1, a2, a3, a4, a5, a6, a7, a8, a9) (nI s) := by
  have h7 := h.2.1
  have hp := h.2.2.1
  have hq := h.2.2.2.1
  have hl := tj_poss m (by omega) p hp q hq s hs
  refine tj_findParts (post := fun u => _) h (fun a ha => ?_)
  refine pk_loop (σ := Unit) (fun n i _ => wX_isPossible_6 post (nI s) (nI m) (nI c) fw a1 a2 a3 a4 a5 a6 a7 a8 a n (nI i)) (fun i _ => ∀ b, b < i → ¬ tj_par (tj_pt p q) s b m = 1) m 0 () (by omega) (fun j hj => absurd hj (by omega)) ?_ ?_
  · intro n _ hI
    exact pk_le m m (fun _ => H1 (hl.mp hI) a) (fun z => absurd z (by omega))
  · intro n i _ hi hI hw
    refine pk_le m i (fun z => absurd z (by omega)) (fun _ => ?_)
    exact tj_p19 h7 hs hi (fun j hj => tj_pt_lt hp hj) ha rfl (fun e => H0 (fun g => hl.mpr g i hi e) a) (fun e => hw () (lt_s hI e))
/-- one place's turn -/
theorem tj_c21 {post : Int32 → St2 → Prop} {J : Int32 → Int32 → Prop} {x1 fc fw : Int32} {m k : Nat} {f : Nat → Nat} {a1 a2 a3 a4 a5 a6 a7 a8 a9 : Nat → Int32} (hm : m ≤ 7) (hk : k < m) (hf : ∀ j, j < m → f j < m) (h9 : ∀ j, j < m → a9 j = nI (f j))
    (H : J (x1 + nI (tj_fst f k k)) (nI (k + 1))) : ∃ n, wX_countParts_21 post J x1 (nI k) (nI m) fc fw a1 a2 a3 a4 a5 a6 a7 a8 a9 n 1 0 := by
  refine pk_loop (σ := Unit) (fun n i _ => wX_countParts_21 post J x1 (nI k) (nI m) fc fw a1 a2 a3 a4 a5 a6 a7 a8 a9 n (nI (tj_fst f k i)) (nI i)) (fun _ _ => True) k 0 () (by omega) trivial ?_ ?_
  · intro n _ _
    have hl := tj_fst_le f k k
    refine pk_le k k (fun _ => pk_eq (tj_fst f k k) 0 (fun z => ?_) (fun z => ?_)) (fun z => absurd z (by omega))
    · rw [z] at H
      exact nm_e (nm_r (nI_1 k) H)
    · rw [show tj_fst f k k = 1 by omega] at H
      exact nm_e (nm_r (nI_1 k) H)
  · intro n i _ hi _ hw
    have hw := hw () trivial
    have hl := tj_fst_le f k i
    have hc : (nI i).toNatClampNeg = i := nI_clamp (by omega)
    have hd : (nI k).toNatClampNeg = k := nI_clamp (by omega)
    have hfi := hf i (by omega)
    have hfk := hf k hk
    rw [tj_fst] at hw
    refine pk_le k i (fun z => absurd z (by omega)) (fun _ => pk_eq (tj_fst f k i) 0 (fun z => ?_) (fun z => ⟨pk_in i 7 (by omega), pk_in k 7 (by omega), ?_⟩))
    · rw [if_pos z] at hw
      exact nm_r (nI_1 i) hw
    · rw [if_neg z] at hw
      refine pk_eq (f i) (f k) (fun g => ?_) (fun g => ?_) (by rw [hc, h9 i (by omega)]) (by rw [hd, h9 k hk]) (by omega) (by omega)
      · rw [if_pos g] at hw
        exact nm_r (nI_1 i) hw
      · rw [if_neg g] at hw
        exact nm_r (nI_1 i) hw
theorem tj_countParts {post : Int32 → St2 → Prop} {m c p q : Nat} {w fw : Int32} {a1 a2 a3 a4 a5 a6 a7 a8 a9 : Nat → Int32} (h : tj_P m c p q w a1 a2 a3)
    (H : ∀ a, post (nI (if p = q then m else m - 1)) (nI m, nI c, fw, a1, a2, a3, a4, a5, a6, a7, a8, a)) : wpX_countParts post (nI m, nI c, fw, a1, a2, a3, a4, a5, a6, a7, a8, a9) := by
  have h7 := h.2.1
  have hp := h.2.2.1
  have hq := h.2.2.2.1
  have hl := tj_count m (by omega) p hp q hq
  refine tj_findParts (post := fun u => _) h (fun a ha => ?_)
  have H := H a
  rw [← hl] at H
  refine pk_loop (σ := Unit) (fun n i _ => wX_countParts_8 post (nI m) (nI c) fw a1 a2 a3 a4 a5 a6 a7 a8 a n (nI (tj_cnt (tj_pt p q) i)) (nI i)) (fun _ _ => True) m 0 () (by omega) trivial ?_ ?_
  · intro n _ _
    exact pk_le m m (fun _ => H) (fun z => absurd z (by omega))
  · intro n i _ hi _ hw
    have hw := hw () trivial
    rw [tj_cnt, ← nI_add] at hw
    exact pk_le m i (fun z => absurd z (by omega)) (fun _ => tj_c21 h7 hi (fun j hj => tj_pt_lt hp hj) ha hw)
theorem tj_joins {post : Int32 → St2 → Prop} {m c p q s : Nat} {w : Int32} {a1 a2 a3 a4 a5 a6 a7 a8 a9 : Nat → Int32} (h : tj_P m c p q w a1 a2 a3) (hs : s < 2 ^ m)
    (H : ∀ a, post (nI (if s = 0 then 1 else 0) + nI (if c = 1 ∧ s = tj_E p q then 1 else 0)) (nI m, nI c, nI s, a1, a2, a3, a4, a5, a6, a7, a8, a)) : wpX_joins post (nI m, nI c, nI s, a1, a2, a3, a4, a5, a6, a7, a8, a9) := by
  have h2 := h.1
  have h7 := h.2.1
  have hp := h.2.2.1
  have hq := h.2.2.2.1
  have hE := tj_E_0 p (by omega) q (by omega)
  have hj := tj_jn m (by omega)
  refine tj_isPossible (post := fun r u => _) h hs (fun g a => ?_) (fun g a => ?_)
  · refine br_f (by decide) ?_
    refine tj_countParts (post := fun r u => _) h (fun b => ?_)
    have H := H b
    rcases h.2.2.2.2 with ⟨rfl, rfl⟩ | ⟨rfl, _⟩
    · have e : s = 0 := by
        rcases g with g | g
        · exact g
        · rw [g]; exact hE.mpr rfl
      rw [if_pos e, if_neg (by omega)] at H
      show post ((1 : Int32) <<< (((nI 0 - nI m) + nI (if p = p then m else m - 1)) &&& 31)) _
      rw [if_pos rfl, hj.1]
      exact H
    · show post ((1 : Int32) <<< (((nI 1 - nI m) + nI (if p = q then m else m - 1)) &&& 31)) _
      by_cases e : p = q
      · have e0 := hE.mpr e
        have es : s = 0 := by
          rcases g with g | g
          · exact g
          · rw [g, e0]
        rw [if_pos es, if_pos ⟨rfl, by rw [es, e0]⟩] at H
        rw [if_pos e, hj.2.1]
        exact H
      · have e0 : ¬ tj_E p q = 0 := fun z => e (hE.mp z)
        rw [if_neg e, hj.2.2 h2]
        rcases g with g | g
        · rw [if_pos g, if_neg (by omega)] at H
          exact H
        · rw [if_neg (by omega), if_pos ⟨rfl, g⟩] at H
          exact H
  · refine br_t rfl ?_
    have H := H a
    rw [if_neg (by omega), if_neg (by omega)] at H
    exact H
end
section
/-- far and via hold the ways -/
def tj_G (p q K : Nat) (a5 a6 : Nat → Int32) : Prop := ∀ k, k < 49 → a5 k = nI (tj_d p q K (k / 7) (k % 7)) ∧ a6 k = nI (tj_v p q (k / 7) (k % 7))
theorem tj_takeCosts {post : St2 → Prop} {m c p q : Nat} {w fw : Int32} {a1 a2 a3 a4 a5 a6 a7 a8 a9 : Nat → Int32} (h : tj_P m c p q w a1 a2 a3)
    (H : ∀ b, (c = 1 → b 0 = tj_C w) → post (nI m, nI c, fw, a1, a2, a3, b, a5, a6, a7, a8, a9)) : wpX_takeCosts post (nI m, nI c, fw, a1, a2, a3, a4, a5, a6, a7, a8, a9) := by
  obtain ⟨h2, h7, hp, hq, ⟨rfl, rfl⟩ | ⟨rfl, e1, e2, e3, _⟩⟩ := h
  · exact ⟨1, pk_le 0 0 (fun _ => H a4 (fun z => absurd z (by omega))) (fun z => absurd z (by omega))⟩
  · refine ⟨2, pk_le 1 0 (fun z => absurd z (by omega)) (fun _ => ⟨pk_in 0 12 (by omega), pk_in 0 12 (by omega), nm_e (nm_r (nI_1 0) ?_)⟩)⟩
    refine pk_le 1 1 (fun _ => H _ (fun _ => ?_)) (fun z => absurd z (by omega))
    show upd a4 0 ((4096 * (a3 0)) + ((1 : Int32) <<< ((0 : Int32) &&& 31))) 0 = tj_C w
    rw [pk_us, e3]
    rfl
theorem tj_take {post : St2 → Prop} {k : Nat} {fn fc fw x y z : Int32} {a1 a2 a3 a4 a5 a6 a7 a8 a9 : Nat → Int32} (hk : k < 49) (hx : x = nI k)
    (H0 : a5 k ≤ y → post (fn, fc, fw, a1, a2, a3, a4, a5, a6, a7, a8, a9)) (H1 : ¬ a5 k ≤ y → post (fn, fc, fw, a1, a2, a3, a4, upd a5 k y, upd a6 k z, a7, a8, a9)) : wpX_take post (fn, fc, fw, a1, a2, a3, a4, a5, a6, a7, a8, a9) x y z := by
  subst hx
  have hc : (nI k).toNatClampNeg = k := nI_clamp (by omega)
  unfold wpX_take
  dsimp only
  rw [hc]
  exact ⟨pk_in k 49 hk, br_c H0 (fun g => ⟨pk_in k 49 hk, nm_e ⟨pk_in k 49 hk, nm_e (H1 g)⟩⟩)⟩
theorem tj_146 {post : St2 → Prop} {J : Int32 → Int32 → Int32 → Int32 → (Nat → Int32) → (Nat → Int32) → (Nat → Int32) → (Nat → Int32) → (Nat → Int32) → (Nat → Int32) → (Nat → Int32) → (Nat → Int32) → (Nat → Int32) → Prop} {o p q K : Nat} {fn fc fw : Int32} {a1 a2 a3 a4 a5 a6 a7 a8 a9 : Nat → Int32} (ho : o < 7) (hK : K ≤ 268435456) (hg : tj_G p q K a5 a6)
    (H : J (nI (o + 1)) fn fc fw a1 a2 a3 a4 a5 a6 a7 a8 a9) : ∃ n, wX_findWays_146 post J (nI o) n 0 fn fc fw a1 a2 a3 a4 a5 a6 a7 a8 a9 := by
  refine pk_loop (σ := Unit) (fun n i _ => wX_findWays_146 post J (nI o) n (nI i) fn fc fw a1 a2 a3 a4 a5 a6 a7 a8 a9) (fun _ _ => True) 49 0 () (by omega) trivial ?_ ?_
  · intro n _ _
    exact pk_le 49 49 (fun _ => nm_r (nI_1 o) H) (fun z => absurd z (by omega))
  · intro n i _ hi _ hw
    have hw := hw () trivial
    have e1 : (7 : Int32) * (nI i / 7) + nI o = nI (7 * (i / 7) + o) := by
      rw [show (7 : Int32) = nI 7 from rfl, pk_div (by omega) (by omega) (by omega), pk_mul, nI_add]
    have e2 : (7 : Int32) * nI o + (nI i - nI i / 7 * 7) = nI (7 * o + i % 7) := by
      rw [show (7 : Int32) = nI 7 from rfl, pk_rem (by omega) (by omega) (by omega), pk_mul, nI_add]
    have b1 : 7 * (i / 7) + o < 49 := by omega
    have b2 : 7 * o + i % 7 < 49 := by omega
    refine pk_le 49 i (fun z => absurd z (by omega)) (fun _ => ⟨by decide, nm_r e1 ⟨by decide, nm_r e2 ⟨pk_in _ 49 b1, pk_in _ 49 b2, pk_in _ 49 b1, pk_in _ 49 b2, ?_⟩⟩⟩)
    refine tj_take (post := fun u => _) hi rfl (fun _ => nm_r (nI_1 i) hw) (fun z => absurd ?_ z)
    rw [nI_clamp (by omega), nI_clamp (by omega), (hg i hi).1, (hg _ b1).1, (hg _ b2).1, nI_add]
    rw [show (7 * (i / 7) + o) / 7 = i / 7 by omega, show (7 * (i / 7) + o) % 7 = o by omega, show (7 * o + i % 7) / 7 = o by omega, show (7 * o + i % 7) % 7 = i % 7 by omega]
    have t := tj_tri (p := p) (q := q) (i := i / 7) (j := i % 7) (o := o) hK
    have t1 := tj_d_le (p := p) (q := q) (i := i / 7) (j := o) hK
    have t2 := tj_d_le (p := p) (q := q) (i := o) (j := i % 7) hK
    exact nI_le t (by omega)
theorem tj_136 {post : St2 → Prop} {m p q K : Nat} {fc fw : Int32} {a1 a2 a3 a4 a5 a6 a7 a8 a9 : Nat → Int32} (hm : m ≤ 7) (hK : K ≤ 268435456) (hg : tj_G p q K a5 a6)
    (H : post (nI m, fc, fw, a1, a2, a3, a4, a5, a6, a7, a8, a9)) : ∃ n, wX_findWays_136 post n 0 (nI m) fc fw a1 a2 a3 a4 a5 a6 a7 a8 a9 :=
  pk_loop (σ := Unit) (fun n i _ => wX_findWays_136 post n (nI i) (nI m) fc fw a1 a2 a3 a4 a5 a6 a7 a8 a9) (fun _ _ => True) m 0 () (by omega) trivial
    (fun n _ _ => pk_le m m (fun _ => H) (fun z => absurd z (by omega)))
    (fun n i _ hi _ hw => pk_le m i (fun z => absurd z (by omega)) (fun _ => tj_146 (by omega) hK hg (hw () trivial)))
/-- the table before the road -/
def tj_G0 (a5 a6 : Nat → Int32) (n : Nat) : Prop := ∀ k, k < n → a5 k = nI (if k / 7 = k % 7 then 0 else 268435456) ∧ a6 k = nI 0
theorem tj_G0_G {p K : Nat} {a5 a6 : Nat → Int32} (h : tj_G0 a5 a6 49) : tj_G p p K a5 a6 := by
  intro k hk
  rw [(h k hk).1, (h k hk).2, tj_d, tj_v]
  by_cases e : k / 7 = k % 7
  · rw [if_pos e, if_pos e, if_pos e]
    exact ⟨rfl, rfl⟩
  · rw [if_neg e, if_neg e, if_neg e, if_neg (by omega), if_neg (by omega)]
    exact ⟨rfl, rfl⟩
theorem tj_put {p q K : Nat} {a5 a6 : Nat → Int32} (hp : p < 7) (hq : q < 7) (e : p ≠ q) (h : tj_G0 a5 a6 49) : tj_G p q K (upd (upd a5 (7 * p + q) (nI K)) (7 * q + p) (nI K)) (upd (upd a6 (7 * p + q) (nI 1)) (7 * q + p) (nI 1)) := by
  intro k hk
  by_cases e1 : k = 7 * q + p
  · have d1 : k / 7 = q := by omega
    have d2 : k % 7 = p := by omega
    rw [e1, pk_us, pk_us, ← e1, d1, d2, tj_d, tj_v, if_neg (by omega), if_pos (Or.inr ⟨rfl, rfl⟩), if_neg (by omega), if_pos (Or.inr ⟨rfl, rfl⟩)]
    exact ⟨rfl, rfl⟩
  · rw [pk_un e1, pk_un e1]
    by_cases e2 : k = 7 * p + q
    · have d1 : k / 7 = p := by omega
      have d2 : k % 7 = q := by omega
      rw [e2, pk_us, pk_us, ← e2, d1, d2, tj_d, tj_v, if_neg (by omega), if_pos (Or.inl ⟨rfl, rfl⟩), if_neg (by omega), if_pos (Or.inl ⟨rfl, rfl⟩)]
      exact ⟨rfl, rfl⟩
    · rw [pk_un e2, pk_un e2, (h k hk).1, (h k hk).2, tj_d, tj_v]
      by_cases e3 : k / 7 = k % 7
      · rw [if_pos e3, if_pos e3, if_pos e3]
        exact ⟨rfl, rfl⟩
      · rw [if_neg e3, if_neg e3, if_neg e3, if_neg (by omega), if_neg (by omega)]
        exact ⟨rfl, rfl⟩
/-- the road's two takes -/
theorem tj_79 {post : St2 → Prop} {J : Int32 → Int32 → Int32 → Int32 → (Nat → Int32) → (Nat → Int32) → (Nat → Int32) → (Nat → Int32) → (Nat → Int32) → (Nat → Int32) → (Nat → Int32) → (Nat → Int32) → (Nat → Int32) → Prop} {p q K : Nat} {z fn fc fw : Int32} {a1 a2 a3 a4 a5 a6 a7 a8 a9 : Nat → Int32} (hp : p < 7) (hq : q < 7) (hK : K < 268435456) (h1 : a1 0 = nI p) (h2 : a2 0 = nI q) (hz : z = nI K) (h : tj_G0 a5 a6 49)
    (H : ∀ b5 b6, tj_G p q K b5 b6 → J (nI 1) fn fc fw a1 a2 a3 a4 b5 b6 a7 a8 a9) : wX_findWays_79 post J 0 z fn fc fw a1 a2 a3 a4 a5 a6 a7 a8 a9 := by
  subst hz
  have ea : a1 (0 : Int32).toNatClampNeg = nI p := h1
  have eb : a2 (0 : Int32).toNatClampNeg = nI q := h2
  have e1 : (7 : Int32) * nI p + nI q = nI (7 * p + q) := by
    rw [show (7 : Int32) = nI 7 from rfl, pk_mul, nI_add]
  have e2 : (7 : Int32) * nI q + nI p = nI (7 * q + p) := by
    rw [show (7 : Int32) = nI 7 from rfl, pk_mul, nI_add]
  have es : (1 : Int32) <<< ((0 : Int32) &&& 31) = nI 1 := by decide
  have k1 : 7 * p + q < 49 := by omega
  have k2 : 7 * q + p < 49 := by omega
  refine ⟨pk_in 0 12 (by omega), pk_in 0 12 (by omega), ?_⟩
  rw [es, ea, eb]
  by_cases e : p = q
  · subst e
    have hd : a5 (7 * p + p) ≤ nI K := by
      rw [(h _ k1).1, if_pos (by omega)]
      exact nI_le (by omega) (by omega)
    refine tj_take (post := fun u => _) k1 e1 (fun _ => ⟨pk_in 0 12 (by omega), pk_in 0 12 (by omega), ?_⟩) (fun g => absurd hd g)
    rw [ea, eb]
    refine tj_take (post := fun u => _) k1 e1 (fun _ => nm_r (nI_1 0) (H a5 a6 (tj_G0_G h))) (fun g => absurd hd g)
  · have hn : ∀ k, k < 49 → k / 7 ≠ k % 7 → ¬ a5 k ≤ nI K := by
      intro k hk hne
      rw [(h _ hk).1, if_neg hne]
      exact nI_ge hK (by omega)
    refine tj_take (post := fun u => _) k1 e1 (fun g => absurd g (hn _ k1 (by omega))) (fun _ => ⟨pk_in 0 12 (by omega), pk_in 0 12 (by omega), ?_⟩)
    rw [ea, eb]
    refine tj_take (post := fun u => _) k2 e2 (fun g => absurd g ?_) (fun _ => nm_r (nI_1 0) (H _ _ (tj_put hp hq e h)))
    rw [pk_un (by omega)]
    exact hn _ k2 (by omega)
theorem tj_46 {post : St2 → Prop} {m c p q K : Nat} {w fw : Int32} {a1 a2 a3 a4 a5 a6 a7 a8 a9 : Nat → Int32} (h : tj_P m c p q w a1 a2 a3) (hK : K < 268435456) (h4 : c = 1 → (0 ≤ a4 0 ∧ a4 0 = nI K) ∨ (¬ 0 ≤ a4 0 ∧ -(a4 0) = nI K)) (hg : tj_G0 a5 a6 49)
    (H : ∀ b5 b6, tj_G p q K b5 b6 → post (nI m, nI c, fw, a1, a2, a3, a4, b5, b6, a7, a8, a9)) : ∃ n, wX_findWays_46 post n 0 (nI m) (nI c) fw a1 a2 a3 a4 a5 a6 a7 a8 a9 := by
  obtain ⟨h2, h7, hp, hq, ⟨rfl, rfl⟩ | ⟨rfl, e1, e2, e3, _⟩⟩ := h
  · have g := tj_G0_G (p := p) (K := K) hg
    exact ⟨1, pk_le 0 0 (fun _ => tj_136 h7 (by omega) g (H _ _ g)) (fun z => absurd z (by omega))⟩
  · refine ⟨2, pk_le 1 0 (fun z => absurd z (by omega)) (fun _ => ⟨pk_in 0 12 (by omega), ?_⟩)⟩
    have G : ∀ b5 b6, tj_G p q K b5 b6 → wX_findWays_46 post 1 (nI 1) (nI m) (nI 1) fw a1 a2 a3 a4 b5 b6 a7 a8 a9 := fun b5 b6 g => pk_le 1 1 (fun _ => tj_136 h7 (by omega) g (H _ _ g)) (fun z => absurd z (by omega))
    rcases h4 rfl with ⟨u, v⟩ | ⟨u, v⟩
    · exact br_t u ⟨pk_in 0 12 (by omega), tj_79 (by omega) (by omega) hK e1 e2 v hg G⟩
    · exact br_f u ⟨pk_in 0 12 (by omega), tj_79 (by omega) (by omega) hK e1 e2 v hg G⟩
theorem tj_G0_s {a5 a6 : Nat → Int32} {i : Nat} {x y : Int32} (h : tj_G0 a5 a6 i) (hx : x = nI (if i / 7 = i % 7 then 0 else 268435456)) (hy : y = nI 0) : tj_G0 (upd a5 i x) (upd a6 i y) (i + 1) := by
  intro k hk
  by_cases e : k = i
  · rw [e, pk_us, pk_us]
    exact ⟨hx, hy⟩
  · rw [pk_un e, pk_un e]
    exact h k (by omega)
theorem tj_findWays {post : St2 → Prop} {m c p q K : Nat} {w fw : Int32} {a1 a2 a3 a4 a5 a6 a7 a8 a9 : Nat → Int32} (h : tj_P m c p q w a1 a2 a3) (hK : K < 268435456) (h4 : c = 1 → (0 ≤ a4 0 ∧ a4 0 = nI K) ∨ (¬ 0 ≤ a4 0 ∧ -(a4 0) = nI K))
    (H : ∀ b5 b6, tj_G p q K b5 b6 → post (nI m, nI c, fw, a1, a2, a3, a4, b5, b6, a7, a8, a9)) : wpX_findWays post (nI m, nI c, fw, a1, a2, a3, a4, a5, a6, a7, a8, a9) := by
  refine pk_loop (σ := (Nat → Int32) × (Nat → Int32)) (fun n i s => wX_findWays_2 post (nI m) (nI c) fw n (nI i) a1 a2 a3 a4 s.1 s.2 a7 a8 a9) (fun i s => tj_G0 s.1 s.2 i) 49 0 (a5, a6) (by omega) (fun j hj => absurd hj (by omega)) ?_ ?_
  · intro n s hs
    exact pk_le 49 49 (fun _ => tj_46 h hK h4 hs H) (fun z => absurd z (by omega))
  · intro n i s hi hs hw
    have hc : (nI i).toNatClampNeg = i := nI_clamp (by omega)
    refine pk_le 49 i (fun z => absurd z (by omega)) (fun _ => ⟨by decide, by decide, ?_⟩)
    refine pk_eq (i / 7) (i % 7) (fun e => ?_) (fun e => ?_) (pk_div (d := 7) (by omega) (by omega) (by omega)) (pk_rem (d := 7) (by omega) (by omega) (by omega)) (by omega) (by omega)
    · exact ⟨pk_in i 49 hi, nm_r (show upd s.1 (nI i).toNatClampNeg 0 = upd s.1 i 0 by rw [hc]) ⟨pk_in i 49 hi, nm_r (show upd s.2 (nI i).toNatClampNeg 0 = upd s.2 i 0 by rw [hc]) (nm_r (nI_1 i) (hw (_, _) (tj_G0_s hs (by rw [if_pos e]; rfl) rfl)))⟩⟩
    · exact ⟨pk_in i 49 hi, nm_r (show upd s.1 (nI i).toNatClampNeg 268435456 = upd s.1 i 268435456 by rw [hc]) ⟨pk_in i 49 hi, nm_r (show upd s.2 (nI i).toNatClampNeg 0 = upd s.2 i 0 by rw [hc]) (nm_r (nI_1 i) (hw (_, _) (tj_G0_s hs (by rw [if_neg e]; rfl) rfl)))⟩⟩
theorem tj_oddOf {post : Int32 → Prop} {m c p q k : Nat} {w fw : Int32} {a1 a2 a3 a4 a5 a6 a7 a8 a9 : Nat → Int32} (h : tj_P m c p q w a1 a2 a3) (hk : k ≤ 1)
    (H : post (nI (if c = 1 ∧ k = 1 then tj_E p q else 0))) : wpX_oddOf post (nI m, nI c, fw, a1, a2, a3, a4, a5, a6, a7, a8, a9) (nI k) := by
  obtain ⟨h2, h7, hp, hq, ⟨rfl, rfl⟩ | ⟨rfl, e1, e2, e3, _⟩⟩ := h
  · rw [if_neg (by omega)] at H
    exact ⟨1, pk_le 0 0 (fun _ => H) (fun z => absurd z (by omega))⟩
  · have ea : a1 (0 : Int32).toNatClampNeg = nI p := e1
    have eb : a2 (0 : Int32).toNatClampNeg = nI q := e2
    have hb := tj_bit k (by omega) 0 (by omega)
    rw [show k / 2 ^ 0 % 2 = k by omega] at hb
    refine ⟨2, pk_le 1 0 (fun z => absurd z (by omega)) (fun _ => pk_eq k 1 (fun e => ?_) (fun e => ?_) hb rfl (by omega) (by omega))⟩
    · rw [if_pos ⟨rfl, e⟩] at H
      refine ⟨pk_in 0 12 (by omega), pk_in 0 12 (by omega), ?_⟩
      rw [ea, eb]
      refine nm_r (e' := nI (tj_E p q)) ?_ (nm_r (nI_1 0) (pk_le 1 1 (fun _ => H) (fun z => absurd z (by omega))))
      rw [tj_sh p (by omega), tj_sh q (by omega), ← nI_0, tj_xor, tj_xor, Nat.zero_xor]
      rfl
    · rw [if_neg (fun z => e z.2)] at H
      exact nm_r (nI_1 0) (pk_le 1 1 (fun _ => H) (fun z => absurd z (by omega)))
end
section
theorem tj_pair_any {post : St2 → Prop} {i t j : Nat} {fn fc fw : Int32} {a1 a2 a3 a4 a5 a6 a7 a8 a9 : Nat → Int32} (hi : i < 128) (ht : t < 7) (hj : j < 7)
    (H : ∀ b7 b8, (∀ x, x ≠ i → b7 x = a7 x) → (∀ x, x ≠ i → b8 x = a8 x) → post (fn, fc, fw, a1, a2, a3, a4, a5, a6, b7, b8, a9)) : wpX_pair post (fn, fc, fw, a1, a2, a3, a4, a5, a6, a7, a8, a9) (nI i) (nI t) (nI j) := by
  have hc : (nI i).toNatClampNeg = i := nI_clamp (by omega)
  have hr := tj_rest i hi t ht j hj
  have hl : (i &&& (127 - 2 ^ t)) &&& (127 - 2 ^ j) < 128 := Nat.lt_of_le_of_lt (Nat.le_trans Nat.and_le_left Nat.and_le_left) hi
  generalize (i &&& (127 - 2 ^ t)) &&& (127 - 2 ^ j) = r at hr hl
  have e5 : (7 : Int32) * nI t + nI j = nI (7 * t + j) := by
    rw [show (7 : Int32) = nI 7 from rfl, pk_mul, nI_add]
  have k5 : 7 * t + j < 49 := by omega
  have hs : post (fn, fc, fw, a1, a2, a3, a4, a5, a6, a7, a8, a9) := H a7 a8 (fun _ _ => rfl) (fun _ _ => rfl)
  have i5 : vp_in (nI (7 * t + j)) 49 := pk_in _ 49 k5
  have ir : vp_in (nI r) 128 := pk_in _ 128 hl
  have ii : vp_in (nI i) 128 := pk_in _ 128 hi
  refine nm_r hr (nm_r e5 ⟨i5, br_c (fun _ => hs) (fun _ => ⟨ir, br_c (fun _ => hs) (fun _ => ⟨ir, i5, ii, br_c (fun _ => hs) (fun _ => ⟨ir, i5, ii, nm_e ⟨ir, i5, ii, nm_e (H _ _ (fun x hx => ?_) (fun x hx => ?_))⟩⟩)⟩)⟩)⟩)
  · rw [hc]
    exact pk_un hx
  · rw [hc]
    exact pk_un hx
theorem tj_pair_g {post : St2 → Prop} {i t j K : Nat} {fn fc fw : Int32} {a1 a2 a3 a4 a5 a6 a7 a8 a9 : Nat → Int32} (ht : t < 7) (hj : j < t) (hE : i = tj_E t j) (hi : i < 128) (hK : K < 268435456)
    (h5 : a5 (7 * t + j) = nI K) (h6 : a6 (7 * t + j) = nI 1) (h7 : a7 0 = nI 0) (h8 : a8 0 = nI 0) (h7i : a7 i = nI 268435456)
    (H : ∀ b7 b8, (∀ x, x ≠ i → b7 x = a7 x) → (∀ x, x ≠ i → b8 x = a8 x) → b8 i = nI 1 → post (fn, fc, fw, a1, a2, a3, a4, a5, a6, b7, b8, a9)) : wpX_pair post (fn, fc, fw, a1, a2, a3, a4, a5, a6, a7, a8, a9) (nI i) (nI t) (nI j) := by
  have hr := tj_rest0 t ht j (by omega)
  rw [← hE] at hr
  have hc : (nI i).toNatClampNeg = i := nI_clamp (by omega)
  have e5 : (7 : Int32) * nI t + nI j = nI (7 * t + j) := by
    rw [show (7 : Int32) = nI 7 from rfl, pk_mul, nI_add]
  have k5 : 7 * t + j < 49 := by omega
  have i5 : vp_in (nI (7 * t + j)) 49 := pk_in _ 49 k5
  have ir : vp_in (nI 0) 128 := pk_in 0 128 (by omega)
  have ii : vp_in (nI i) 128 := pk_in _ 128 hi
  have c5 : (nI (7 * t + j)).toNatClampNeg = 7 * t + j := nI_clamp (by omega)
  have c0 : (nI 0).toNatClampNeg = 0 := nI_clamp (by omega)
  have n1 : ¬ 268435456 ≤ a5 (nI (7 * t + j)).toNatClampNeg := by
    rw [c5, h5]
    exact nI_ge (b := 268435456) hK (by decide)
  have n2 : ¬ 268435456 ≤ a7 (nI 0).toNatClampNeg := by
    rw [c0, h7]
    decide
  have n3 : ¬ a7 (nI i).toNatClampNeg ≤ a7 (nI 0).toNatClampNeg + a5 (nI (7 * t + j)).toNatClampNeg := by
    rw [c5, c0, hc, h5, h7, h7i, nI_add]
    exact nI_ge (by omega) (by omega)
  refine nm_r hr (nm_r e5 ⟨i5, br_f n1 ⟨ir, br_f n2 ⟨ir, i5, ii, br_f n3 ⟨ir, i5, ii, nm_e ⟨ir, i5, ii, nm_e (H _ _ (fun x hx => ?_) (fun x hx => ?_) ?_)⟩⟩⟩⟩⟩)
  · rw [hc]
    exact pk_un hx
  · rw [hc]
    exact pk_un hx
  · rw [hc, pk_us, c0, c5, h8, h6, tj_xor]
    rfl
/-- the pairs of one set i; if it is the goal, it ends with road 0 -/
theorem tj_64 {post : St2 → Prop} {J : Int32 → Int32 → Int32 → Int32 → (Nat → Int32) → (Nat → Int32) → (Nat → Int32) → (Nat → Int32) → (Nat → Int32) → (Nat → Int32) → (Nat → Int32) → (Nat → Int32) → (Nat → Int32) → Prop} {g i t hi lo K : Nat} {fn fc fw : Int32} {a1 a2 a3 a4 a5 a6 a7 a8 a9 : Nat → Int32} (h0 : 0 < i) (hi7 : i < 128) (ht : t < 7) (hlo : lo < hi) (hhi : hi < 7) (hK : K < 268435456) (hE : g = tj_E hi lo) (htg : i = g → t = hi)
    (h5 : a5 (7 * hi + lo) = nI K) (h6 : a6 (7 * hi + lo) = nI 1) (h7 : a7 0 = nI 0) (h8 : a8 0 = nI 0) (h7i : a7 i = nI 268435456)
    (H : ∀ b7 b8, b7 0 = nI 0 → b8 0 = nI 0 → (i = g → b8 g = nI 1) → J (nI (i + 1)) fn fc fw a1 a2 a3 a4 a5 a6 b7 b8 a9) : ∃ n, wX_pairUp_64 post J (nI g) (nI i) (nI t) n 0 fn fc fw a1 a2 a3 a4 a5 a6 a7 a8 a9 := by
  refine pk_loop (σ := (Nat → Int32) × (Nat → Int32)) (fun n j s => wX_pairUp_64 post J (nI g) (nI i) (nI t) n (nI j) fn fc fw a1 a2 a3 a4 a5 a6 s.1 s.2 a9) (fun j s => s.1 0 = nI 0 ∧ s.2 0 = nI 0 ∧ (i = g → (j ≤ lo → s.1 g = nI 268435456) ∧ (lo < j → s.2 g = nI 1))) t 0 (a7, a8) (by omega) ⟨h7, h8, fun e => ⟨fun _ => e ▸ h7i, fun z => absurd z (by omega)⟩⟩ ?_ ?_
  · intro n s hs
    exact pk_le t t (fun _ => nm_r (nI_1 i) (H s.1 s.2 hs.1 hs.2.1 (fun e => (hs.2.2 e).2 (by rw [htg e]; exact hlo)))) (fun z => absurd z (by omega))
  · intro n j s hj hs hw
    have hb := tj_bit i hi7 j (by omega)
    refine pk_le t j (fun z => absurd z (by omega)) (fun _ => pk_eq (i / 2 ^ j % 2) 1 (fun z => ?_) (fun z => ?_) hb rfl (by omega) (by omega))
    · by_cases e : i = g ∧ j = lo
      · obtain ⟨e1, e2⟩ := e
        have e3 := htg e1
        have hs2 := (hs.2.2 e1).1 (by omega)
        rw [← e2, ← e3] at h5 h6
        rw [← e1] at hs2
        refine tj_pair_g (post := fun u => _) ht hj (by rw [e1, hE, e2, e3]) hi7 hK h5 h6 hs.1 hs.2.1 hs2 (fun b7 b8 k7 k8 k1 => nm_r (nI_1 j) (hw (b7, b8) ⟨?_, ?_, fun _ => ⟨fun y => absurd y (by omega), fun _ => ?_⟩⟩))
        · exact (k7 0 (by omega)).trans hs.1
        · exact (k8 0 (by omega)).trans hs.2.1
        · rw [← e1]
          exact k1
      · refine tj_pair_any (post := fun u => _) hi7 ht (by omega) (fun b7 b8 k7 k8 => nm_r (nI_1 j) (hw (b7, b8) ⟨?_, ?_, fun e1 => ?_⟩))
        · exact (k7 0 (by omega)).trans hs.1
        · exact (k8 0 (by omega)).trans hs.2.1
        · rw [e1, hE] at z
          exact absurd ⟨e1, (tj_bitE hi hhi lo hlo j (by rw [← htg e1]; exact hj)).mp z⟩ e
    · refine nm_r (nI_1 j) (hw s ⟨hs.1, hs.2.1, fun e1 => ⟨fun k => (hs.2.2 e1).1 (by omega), fun k => (hs.2.2 e1).2 ?_⟩⟩)
      have : ¬ j = lo := by
        intro e
        have e3 := htg e1
        rw [e1, hE] at z
        exact z ((tj_bitE hi hhi lo hlo j (by omega)).mpr e)
      omega
/-- one set's turn, from its greatest member on -/
theorem tj_47 {post : St2 → Prop} {J : Int32 → Int32 → Int32 → Int32 → (Nat → Int32) → (Nat → Int32) → (Nat → Int32) → (Nat → Int32) → (Nat → Int32) → (Nat → Int32) → (Nat → Int32) → (Nat → Int32) → (Nat → Int32) → Prop} {x1 : Int32} {i : Nat} {fn fc fw : Int32} {a1 a2 a3 a4 a5 a6 a7 a8 a9 : Nat → Int32} (h0 : 0 < i) (hi7 : i < 128)
    (H : ∃ n, wX_pairUp_64 post J x1 (nI i) (nI (Nat.log2 i)) n 0 fn fc fw a1 a2 a3 a4 a5 a6 a7 a8 a9) : ∃ n, wX_pairUp_47 post J x1 (nI i) fn fc fw a1 a2 a3 a4 a5 a6 a7 a8 a9 n 6 := by
  obtain ⟨t7, t1, tz⟩ := tj_top i hi7 h0
  have L := pk_loopD (σ := Unit) (fun n k _ => k + Nat.log2 i < 7 → wX_pairUp_47 post J x1 (nI i) fn fc fw a1 a2 a3 a4 a5 a6 a7 a8 a9 n (nI (k + Nat.log2 i))) (fun _ _ => True) ?_ ?_ (6 - Nat.log2 i) () trivial (by omega)
  · rw [show 6 - Nat.log2 i + Nat.log2 i = 6 by omega] at L
    exact ⟨_, L⟩
  · intro n _ _ _
    show wX_pairUp_47 post J x1 (nI i) fn fc fw a1 a2 a3 a4 a5 a6 a7 a8 a9 (n + 1) (nI (0 + Nat.log2 i))
    rw [Nat.zero_add]
    refine br_f ?_ H
    rw [tj_bit i hi7 _ t7, t1]
    decide
  · intro n k _ _ hw hk
    have hb := tj_bit i hi7 (k + Nat.log2 i + 1) (by omega)
    rw [tz (k + Nat.log2 i + 1) (by omega) (by omega)] at hb
    show wX_pairUp_47 post J x1 (nI i) fn fc fw a1 a2 a3 a4 a5 a6 a7 a8 a9 (n + 1) (nI (k + 1 + Nat.log2 i))
    rw [show k + 1 + Nat.log2 i = k + Nat.log2 i + 1 by omega]
    exact br_t hb (nm_r (pk_m1 _) (hw () trivial (by omega)))
theorem tj_pairUp_E {post : St2 → Prop} {g hi lo K : Nat} {fn fc fw : Int32} {a1 a2 a3 a4 a5 a6 a7 a8 a9 : Nat → Int32} (hlo : lo < hi) (hhi : hi < 7) (hK : K < 268435456) (hE : g = tj_E hi lo) (hg0 : 0 < g) (hg : g < 128)
    (h5 : a5 (7 * hi + lo) = nI K) (h6 : a6 (7 * hi + lo) = nI 1)
    (H : ∀ b7 b8, b8 g = nI 1 → post (fn, fc, fw, a1, a2, a3, a4, a5, a6, b7, b8, a9)) : wpX_pairUp post (fn, fc, fw, a1, a2, a3, a4, a5, a6, a7, a8, a9) (nI g) := by
  refine nm_e (nm_e ?_)
  refine pk_loop (σ := (Nat → Int32) × (Nat → Int32)) (fun n i s => wX_pairUp_16 post (nI g) n (nI i) fn fc fw a1 a2 a3 a4 a5 a6 s.1 s.2 a9) (fun i s => 0 < i ∧ s.1 0 = nI 0 ∧ s.2 0 = nI 0 ∧ (g < i → s.2 g = nI 1)) (g + 1) 1 (upd a7 0 0, upd a8 0 0) (by omega) ⟨by omega, (show upd a7 0 0 0 = nI 0 from pk_us), (show upd a8 0 0 0 = nI 0 from pk_us), fun z => absurd z (by omega)⟩ ?_ ?_
  · intro n s hs
    exact pk_lt g (g + 1) (fun _ => H s.1 s.2 (hs.2.2.2 (by omega))) (fun z => absurd z (by omega))
  · intro n i s hi1 hs hw
    have hc : (nI i).toNatClampNeg = i := nI_clamp (by omega)
    have h0 := hs.1
    have k7 : upd s.1 i (nI 268435456) 0 = nI 0 := (pk_un (by omega)).trans hs.2.1
    have k8 : upd s.2 i (nI 0) 0 = nI 0 := (pk_un (by omega)).trans hs.2.2.1
    refine pk_lt g i (fun z => absurd z (by omega)) (fun z => ⟨pk_in i 128 (by omega), nm_r (show upd s.1 (nI i).toNatClampNeg 268435456 = upd s.1 i (nI 268435456) by rw [hc]; rfl) ⟨pk_in i 128 (by omega), nm_r (show upd s.2 (nI i).toNatClampNeg 0 = upd s.2 i (nI 0) by rw [hc]; rfl) (br_c (fun _ => ?_) (fun y => ?_))⟩⟩)
    · refine tj_47 h0 (by omega) (tj_64 h0 (by omega) (tj_top i (by omega) h0).1 hlo hhi hK hE (fun e => ?_) h5 h6 k7 k8 pk_us (fun b7 b8 l7 l8 l1 => hw (b7, b8) ⟨by omega, l7, l8, fun e => l1 (by omega)⟩))
      rw [e, hE]
      exact tj_topE hi hhi lo hlo
    · by_cases e : i = g
      · rw [e] at y
        exact absurd (tj_sub0 g hg) y
      · exact nm_r (nI_1 i) (hw (_, _) ⟨by omega, k7, k8, fun e' => absurd e' (by omega)⟩)
theorem tj_pairUp_0 {post : St2 → Prop} {fn fc fw : Int32} {a1 a2 a3 a4 a5 a6 a7 a8 a9 : Nat → Int32}
    (H : ∀ b7 b8, b8 0 = nI 0 → post (fn, fc, fw, a1, a2, a3, a4, a5, a6, b7, b8, a9)) : wpX_pairUp post (fn, fc, fw, a1, a2, a3, a4, a5, a6, a7, a8, a9) (nI 0) :=
  nm_e (nm_e ⟨1, pk_lt 0 1 (fun _ => H _ _ pk_us) (fun z => absurd z (by omega))⟩)
theorem tj_G_at {p q K : Nat} {a5 a6 : Nat → Int32} (hp : p < 7) (hq : q < 7) (e : p ≠ q) (h : tj_G p q K a5 a6) : a5 (7 * p + q) = nI K ∧ a6 (7 * p + q) = nI 1 ∧ a5 (7 * q + p) = nI K ∧ a6 (7 * q + p) = nI 1 := by
  have x := h (7 * p + q) (by omega)
  have y := h (7 * q + p) (by omega)
  rw [show (7 * p + q) / 7 = p by omega, show (7 * p + q) % 7 = q by omega, tj_d, tj_v, if_neg e, if_neg e, if_pos (Or.inl ⟨rfl, rfl⟩), if_pos (Or.inl ⟨rfl, rfl⟩)] at x
  rw [show (7 * q + p) / 7 = q by omega, show (7 * q + p) % 7 = p by omega, tj_d, tj_v, if_neg (Ne.symm e), if_neg (Ne.symm e), if_pos (Or.inr ⟨rfl, rfl⟩), if_pos (Or.inr ⟨rfl, rfl⟩)] at y
  exact ⟨x.1, x.2, y.1, y.2⟩
theorem tj_pairUp {post : St2 → Prop} {g p q K : Nat} {fn fc fw : Int32} {a1 a2 a3 a4 a5 a6 a7 a8 a9 : Nat → Int32} (hp : p < 7) (hq : q < 7) (hK : K < 268435456) (hg : g = 0 ∨ g = tj_E p q) (h : tj_G p q K a5 a6)
    (H : ∀ b7 b8, b8 g = nI (if g = 0 then 0 else 1) → post (fn, fc, fw, a1, a2, a3, a4, a5, a6, b7, b8, a9)) : wpX_pairUp post (fn, fc, fw, a1, a2, a3, a4, a5, a6, a7, a8, a9) (nI g) := by
  by_cases e : g = 0
  · subst e
    exact tj_pairUp_0 H
  · have hE : g = tj_E p q := by omega
    have hne : p ≠ q := fun z => e (by rw [hE]; exact (tj_E_0 p hp q hq).mpr z)
    have hl : g < 128 := by
      rw [hE]
      exact tj_E_lt 7 (by omega) p hp q hq
    obtain ⟨x1, x2, x3, x4⟩ := tj_G_at hp hq hne h
    rw [if_neg e] at H
    rcases Nat.lt_or_gt_of_ne hne with z | z
    · exact tj_pairUp_E z hq hK (by rw [hE, tj_E_c]) (by omega) hl x3 x4 H
    · exact tj_pairUp_E z hp hK hE (by omega) hl x1 x2 H
end
section
theorem tj_s14x {post : Int32 → St2 → Prop} {m c p q s k K n : Nat} {w fw : Int32} {a1 a2 a3 a4 a5 a6 a7 a8 a9 : Nat → Int32} (h : tj_P m c p q w a1 a2 a3) (hK : K < 268435456) (h4 : c = 1 → (0 ≤ a4 0 ∧ a4 0 = nI K) ∨ (¬ 0 ≤ a4 0 ∧ -(a4 0) = nI K)) (hs : s = 0 ∨ s = tj_E p q) (hk : k ≤ 1)
    (H : ∀ b5 b6 b7 b8, post (nI ((if s ^^^ (if c = 1 ∧ k = 1 then tj_E p q else 0) = 0 then 0 else 1) ^^^ k)) (nI m, nI c, fw, a1, a2, a3, a4, b5, b6, b7, b8, a9)) : wX_solve_14 post (nI s) (nI m) (nI c) fw a1 a2 a3 a4 a5 a6 a7 a8 a9 (n + 1) (nI k) (nI c) := by
  have h7 := h.2.1
  have hp := h.2.2.1
  have hq := h.2.2.2.1
  have hc : c ≤ 1 := by
    rcases h.2.2.2.2 with ⟨e, _⟩ | ⟨e, _⟩ <;> omega
  have hl : tj_E p q < 128 := tj_E_lt 7 (by omega) p (by omega) q (by omega)
  refine pk_le c c (fun _ => ?_) (fun z => absurd z (by omega))
  refine tj_findWays (post := fun u => _) h hK h4 (fun b5 b6 hg => ?_)
  refine tj_oddOf (post := fun r => _) h hk ?_
  have hgo : s ^^^ (if c = 1 ∧ k = 1 then tj_E p q else 0) = 0 ∨ s ^^^ (if c = 1 ∧ k = 1 then tj_E p q else 0) = tj_E p q := by
    split
    · rcases hs with e | e
      · rw [e, Nat.zero_xor]
        exact Or.inr rfl
      · rw [e, Nat.xor_self]
        exact Or.inl rfl
    · rw [Nat.xor_zero]
      exact hs
  refine nm_r (tj_xor _ _) ?_
  generalize s ^^^ (if c = 1 ∧ k = 1 then tj_E p q else 0) = g at hgo H
  have hg7 : g < 128 := by omega
  refine tj_pairUp (post := fun u => _) (by omega) (by omega) hK hgo hg (fun b7 b8 h8 => ⟨pk_in g 128 hg7, ?_⟩)
  rw [nI_clamp (by omega), h8, tj_xor]
  exact H b5 b6 b7 b8
theorem tj_R0 {c p q s : Nat} {w : Int32} (hs : s = 0 ∨ s = tj_E p q) (hw : ¬ (c = 1 ∧ p = q ∧ ¬ 0 ≤ w)) : nI ((if s ^^^ (if c = 1 ∧ 0 = 1 then tj_E p q else 0) = 0 then 0 else 1) ^^^ 0) = tj_R c p q w s := by
  rw [if_neg (by omega : ¬ (c = 1 ∧ 0 = 1)), Nat.xor_zero, Nat.xor_zero, tj_R, if_neg hw]
  by_cases e : s = 0
  · rw [if_pos e, if_pos e]
    rfl
  · rw [if_neg e, if_neg e, if_pos (by omega)]
    rfl
theorem tj_R1 {p q s : Nat} {w : Int32} (hp : p < 7) (hq : q < 7) (hs : s = 0 ∨ s = tj_E p q) (hw : ¬ 0 ≤ w) : nI ((if s ^^^ (if 1 = 1 ∧ 1 = 1 then tj_E p q else 0) = 0 then 0 else 1) ^^^ 1) = tj_R 1 p q w s := by
  have hE := tj_E_0 p hp q hq
  rw [if_pos (⟨rfl, rfl⟩ : 1 = 1 ∧ 1 = 1), tj_R]
  by_cases e : s = 0
  · rw [e, Nat.zero_xor, if_pos rfl]
    by_cases z : p = q
    · rw [if_pos (hE.mpr z), if_pos ⟨rfl, z, hw⟩]
      rfl
    · rw [if_neg (fun y => z (hE.mp y)), if_neg (fun y => z y.2.1)]
      rfl
  · have e1 : s = tj_E p q := by omega
    rw [if_neg e, if_pos e1, e1, Nat.xor_self, if_pos rfl]
    rfl
theorem tj_solve {post : Int32 → St2 → Prop} {m c p q s : Nat} {w fw : Int32} {a1 a2 a3 a4 a5 a6 a7 a8 a9 : Nat → Int32} (h : tj_P m c p q w a1 a2 a3) (h4 : c = 1 → a4 0 = tj_C w) (hs : s < 2 ^ m)
    (H : ∀ b5 b6 b7 b8 b9, post (tj_R c p q w s) (nI m, nI c, fw, a1, a2, a3, a4, b5, b6, b7, b8, b9)) : wpX_solve post (nI m, nI c, fw, a1, a2, a3, a4, a5, a6, a7, a8, a9) (nI s) := by
  have h7 := h.2.1
  have hp := h.2.2.1
  have hq := h.2.2.2.1
  refine tj_isPossible (post := fun r u => _) h hs (fun g a => br_f (by decide) ?_) (fun g a => br_t rfl ?_)
  · rcases h.2.2.2.2 with ⟨rfl, e⟩ | ⟨rfl, e1, e2, e3, w1, w2⟩
    · refine ⟨1, tj_s14x (k := 0) (K := 0) (n := 0) h (by omega) (fun z => absurd z (by omega)) g (by omega) (fun b5 b6 b7 b8 => ?_)⟩
      rw [tj_R0 (w := w) g (fun z => absurd z.1 (by omega))]
      exact H b5 b6 b7 b8 a
    · obtain ⟨K, _, hK, k⟩ := tj_cost w1 w2
      have e4 := h4 rfl
      rcases k with ⟨k1, k2, k3⟩ | ⟨k1, k2, k3⟩
      · have k2' : 0 ≤ a4 (0 : Int32).toNatClampNeg := by
          show 0 ≤ a4 0
          rw [e4]
          exact k2
        refine ⟨2, pk_le 1 0 (fun z => absurd z (by omega)) (fun _ => ⟨pk_in 0 12 (by omega), br_t k2' (nm_r (show (0 : Int32) ||| 0 = nI 0 by decide) (nm_r (nI_1 0) (tj_s14x (c := 1) (k := 0) (n := 0) h hK (fun _ => Or.inl ⟨by rw [e4]; exact k2, by rw [e4]; exact k3⟩) g (by omega) (fun b5 b6 b7 b8 => ?_))))⟩)⟩
        rw [tj_R0 (w := w) g (fun z => z.2.2 k1)]
        exact H b5 b6 b7 b8 a
      · have k2' : ¬ 0 ≤ a4 (0 : Int32).toNatClampNeg := by
          show ¬ 0 ≤ a4 0
          rw [e4]
          exact k2
        refine ⟨2, pk_le 1 0 (fun z => absurd z (by omega)) (fun _ => ⟨pk_in 0 12 (by omega), br_f k2' (nm_r (show (0 : Int32) ||| ((1 : Int32) <<< ((0 : Int32) &&& 31)) = nI 1 by decide) (nm_r (nI_1 0) (tj_s14x (c := 1) (k := 1) (n := 0) h hK (fun _ => Or.inr ⟨by rw [e4]; exact k2, by rw [e4]; exact k3⟩) g (by omega) (fun b5 b6 b7 b8 => ?_))))⟩)⟩
        rw [tj_R1 (by omega) (by omega) g k1]
        exact H b5 b6 b7 b8 a
  · have H := H a5 a6 a7 a8 a
    rw [tj_R, if_neg (fun z => g (Or.inl z)), if_neg (fun z => g (Or.inr z))] at H
    exact H
theorem tj_weightOf {post : Int32 → Prop} {m c p q k : Nat} {w fw : Int32} {a1 a2 a3 a4 a5 a6 a7 a8 a9 : Nat → Int32} (h : tj_P m c p q w a1 a2 a3) (hk : k ≤ 1)
    (H : post (if c = 1 ∧ k = 1 then w else 0)) : wpX_weightOf post (nI m, nI c, fw, a1, a2, a3, a4, a5, a6, a7, a8, a9) (nI k) := by
  obtain ⟨h2, h7, hp, hq, ⟨rfl, rfl⟩ | ⟨rfl, e1, e2, e3, _⟩⟩ := h
  · rw [if_neg (by omega)] at H
    exact ⟨1, pk_le 0 0 (fun _ => H) (fun z => absurd z (by omega))⟩
  · have hb := tj_bit k (by omega) 0 (by omega)
    rw [show k / 2 ^ 0 % 2 = k by omega] at hb
    refine ⟨2, pk_le 1 0 (fun z => absurd z (by omega)) (fun _ => pk_eq k 1 (fun e => ?_) (fun e => ?_) hb rfl (by omega) (by omega))⟩
    · rw [if_pos ⟨rfl, e⟩] at H
      exact ⟨pk_in 0 12 (by omega), nm_r (e' := w) (show 0 + a3 0 = w by rw [e3, Int32.zero_add]) (nm_r (nI_1 0) (pk_le 1 1 (fun _ => H) (fun z => absurd z (by omega))))⟩
    · rw [if_neg (fun z => e z.2)] at H
      exact nm_r (e' := 0) (by decide) (nm_r (nI_1 0) (pk_le 1 1 (fun _ => H) (fun z => absurd z (by omega))))
theorem tj_RB {m c p q : Nat} {w : Int32} {a1 a2 a3 : Nat → Int32} (h : tj_P m c p q w a1 a2 a3) (s : Nat) : (tj_R c p q w s = -1 ∧ tj_B c p q w s = -1000) ∨ ∃ k, k ≤ 1 ∧ tj_R c p q w s = nI k ∧ tj_B c p q w s = if c = 1 ∧ k = 1 then w else 0 := by
  have h7 := h.2.1
  have hp := h.2.2.1
  have hq := h.2.2.2.1
  have hE := tj_E_0 p (by omega) q (by omega)
  rw [tj_R, tj_B]
  by_cases e : s = 0
  · rw [if_pos e, if_pos e]
    by_cases z : c = 1 ∧ p = q ∧ ¬ 0 ≤ w
    · rw [if_pos z, if_pos z]
      exact Or.inr ⟨1, by omega, rfl, by rw [if_pos ⟨z.1, rfl⟩]⟩
    · rw [if_neg z, if_neg z]
      exact Or.inr ⟨0, by omega, rfl, by rw [if_neg (by omega)]⟩
  · rw [if_neg e, if_neg e]
    by_cases z : s = tj_E p q
    · rw [if_pos z, if_pos z]
      have hc : c = 1 := by
        rcases h.2.2.2.2 with ⟨_, y⟩ | ⟨y, _⟩
        · exact absurd (z.trans (hE.mpr y)) e
        · exact y
      exact Or.inr ⟨1, by omega, rfl, by rw [if_pos ⟨hc, rfl⟩]⟩
    · rw [if_neg z, if_neg z]
      exact Or.inl ⟨rfl, rfl⟩
theorem tj_best {post : Int32 → St2 → Prop} {m c p q s : Nat} {w : Int32} {a1 a2 a3 a4 a5 a6 a7 a8 a9 : Nat → Int32} (h : tj_P m c p q w a1 a2 a3) (hs : s < 2 ^ m)
    (H : ∀ b4 b5 b6 b7 b8 b9, post (tj_B c p q w s) (nI m, nI c, nI s, a1, a2, a3, b4, b5, b6, b7, b8, b9)) : wpX_best post (nI m, nI c, nI s, a1, a2, a3, a4, a5, a6, a7, a8, a9) := by
  refine tj_takeCosts (post := fun u => _) h (fun b4 h4 => ?_)
  refine tj_solve (post := fun r u => _) h h4 hs (fun b5 b6 b7 b8 b9 => ?_)
  have H := H b4 b5 b6 b7 b8 b9
  rcases tj_RB h s with ⟨e1, e2⟩ | ⟨k, hk, e1, e2⟩
  · rw [e2] at H
    rw [e1]
    exact br_f (by decide) H
  · rw [e2] at H
    rw [e1]
    exact br_t (nI_pos' (by omega)) (tj_weightOf (post := fun r => _) h hk H)
theorem tj_bestSet {post : Int32 → St2 → Prop} {m c p q s : Nat} {w : Int32} {a1 a2 a3 a4 a5 a6 a7 a8 a9 : Nat → Int32} (h : tj_P m c p q w a1 a2 a3) (hs : s < 2 ^ m)
    (H : ∀ b4 b5 b6 b7 b8 b9, post (tj_R c p q w s) (nI m, nI c, nI s, a1, a2, a3, b4, b5, b6, b7, b8, b9)) : wpX_bestSet post (nI m, nI c, nI s, a1, a2, a3, a4, a5, a6, a7, a8, a9) := by
  refine tj_takeCosts (post := fun u => _) h (fun b4 h4 => ?_)
  exact tj_solve (post := fun r u => _) h h4 hs (fun b5 b6 b7 b8 b9 => H b4 b5 b6 b7 b8 b9)
/-- the answer of postman -/
def tj_Q (c p q : Nat) (w : Int32) : Int32 := if c = 0 then 0 else if 0 ≤ w then (if p = q then 0 else w) else -1
theorem tj_postman {post : Int32 → St2 → Prop} {m c p q : Nat} {w fw : Int32} {a1 a2 a3 a4 a5 a6 a7 a8 a9 : Nat → Int32} (h : tj_P m c p q w a1 a2 a3)
    (H : ∀ b4 b5 b6 b7 b8 b9, post (tj_Q c p q w) (nI m, nI c, fw, a1, a2, a3, b4, b5, b6, b7, b8, b9)) : wpX_postman post (nI m, nI c, fw, a1, a2, a3, a4, a5, a6, a7, a8, a9) := by
  have h7 := h.2.1
  have hp := h.2.2.1
  have hq := h.2.2.2.1
  have hE := tj_E_0 p (by omega) q (by omega)
  rcases h.2.2.2.2 with ⟨rfl, e⟩ | ⟨rfl, e1, e2, e3, w1, w2⟩
  · have H := H a4 a5 a6 a7 a8 a9
    rw [tj_Q, if_pos rfl] at H
    exact ⟨1, pk_le 0 0 (fun _ => br_t rfl H) (fun z => absurd z (by omega))⟩
  · have ec : a3 (0 : Int32).toNatClampNeg = w := e3
    refine ⟨2, pk_le 1 0 (fun z => absurd z (by omega)) (fun _ => ⟨pk_in 0 12 (by omega), ?_⟩)⟩
    rw [ec]
    refine br_c (fun y => nm_r (nI_1 0) (pk_le 1 1 (fun _ => br_f (by decide) ?_) (fun z => absurd z (by omega)))) (fun y => ?_)
    · refine tj_findParts (post := fun u => _) h (fun b9 _ => ⟨1, pk_le 1 1 (fun _ => ?_) (fun z => absurd z (by omega))⟩)
      refine tj_takeCosts (post := fun u => _) h (fun b4 h4 => ?_)
      unfold wpX_oddPlaces
      dsimp only
      rw [show ((1 : Int32) <<< (nI 1 &&& 31)) - 1 = nI 1 by decide]
      refine tj_oddOf (post := fun r => _) h (by omega) ?_
      rw [if_pos ⟨rfl, rfl⟩]
      refine tj_solve (post := fun r u => _) h h4 (tj_E_lt m (by omega) p hp q hq) (fun b5 b6 b7 b8 b9' => ?_)
      have H := H b4 b5 b6 b7 b8 b9'
      rw [tj_Q, if_neg (by omega), if_pos y] at H
      rw [tj_R]
      by_cases e : p = q
      · rw [if_pos e] at H
        rw [if_pos (hE.mpr e), if_neg (fun z => z.2.2 y)]
        exact tj_weightOf (k := 0) (post := fun r => _) h (by omega) (by rw [if_neg (by omega)]; exact H)
      · rw [if_neg e] at H
        rw [if_neg (fun z => e (hE.mp z)), if_pos rfl]
        exact tj_weightOf (k := 1) (post := fun r => _) h (by omega) (by rw [if_pos ⟨rfl, rfl⟩]; exact H)
    · have H := H a4 a5 a6 a7 a8 a9
      rw [tj_Q, if_neg (by omega), if_neg y] at H
      exact H
end
section
def tj_fN (s : Nat) : Nat := if s = 0 then 1 else 0
def tj_fO (c p q s : Nat) : Nat := if c = 1 ∧ s = tj_E p q then 1 else 0
theorem tj_fN_le (s : Nat) : tj_fN s ≤ 1 := by
  unfold tj_fN
  split <;> omega
theorem tj_fO_le (c p q s : Nat) : tj_fO c p q s ≤ 1 := by
  unfold tj_fO
  split <;> omega
/-- what the law holds of the road -/
def tj_X (c p q : Nat) (w x1 x2 x3 : Int32) : Prop := c = 1 → x1 = nI p ∧ x2 = nI q ∧ x3 = w
theorem tj_fN0 {s : Nat} (e : tj_fN s = 0) : ¬ s = 0 := by
  intro z
  rw [tj_fN, if_pos z] at e
  omega
theorem tj_fN1 {s : Nat} (e : tj_fN s ≠ 0) : s = 0 := by
  by_cases z : s = 0
  · exact z
  · rw [tj_fN, if_neg z] at e
    omega
theorem tj_fO0 {c p q s : Nat} (e : tj_fO c p q s = 0) : ¬ (c = 1 ∧ s = tj_E p q) := by
  intro z
  rw [tj_fO, if_pos z] at e
  omega
theorem tj_fO1 {c p q s : Nat} (e : tj_fO c p q s ≠ 0) : c = 1 ∧ s = tj_E p q := by
  by_cases z : c = 1 ∧ s = tj_E p q
  · exact z
  · rw [tj_fO, if_neg z] at e
    omega
/-- the answers in the law's four cases -/
theorem tj_D {m c p q s : Nat} {w : Int32} {a1 a2 a3 : Nat → Int32} (h : tj_P m c p q w a1 a2 a3) (e : tj_fN s = 0) (g : tj_fO c p q s = 0) : -1 = tj_R c p q w s ∧ -1000 = tj_B c p q w s := by
  have h7 := h.2.1
  have hp := h.2.2.1
  have hq := h.2.2.2.1
  have hE := tj_E_0 p (by omega) q (by omega)
  have e := tj_fN0 e
  have g := tj_fO0 g
  have z : ¬ s = tj_E p q := by
    intro z
    rcases h.2.2.2.2 with ⟨_, y⟩ | ⟨y, _⟩
    · exact e (z.trans (hE.mpr y))
    · exact g ⟨y, z⟩
  rw [tj_R, tj_B, if_neg e, if_neg e, if_neg z, if_neg z]
  exact ⟨rfl, rfl⟩
theorem tj_Cc {c p q s : Nat} {w x1 x2 x3 : Int32} (hx : tj_X c p q w x1 x2 x3) (e : tj_fN s = 0) (g : tj_fO c p q s ≠ 0) : 1 = tj_R c p q w s ∧ x3 = tj_B c p q w s := by
  have e := tj_fN0 e
  have g := tj_fO1 g
  rw [tj_R, tj_B, if_neg e, if_neg e, if_pos g.2, if_pos g.2]
  exact ⟨rfl, (hx g.1).2.2⟩
theorem tj_Bb {m c p q s : Nat} {w : Int32} {a1 a2 a3 : Nat → Int32} (h : tj_P m c p q w a1 a2 a3) (e : tj_fN s ≠ 0) (g : tj_fO c p q s = 0) : 0 = tj_R c p q w s ∧ 0 = tj_B c p q w s := by
  have h7 := h.2.1
  have hp := h.2.2.1
  have hq := h.2.2.2.1
  have hE := tj_E_0 p (by omega) q (by omega)
  have e := tj_fN1 e
  have g := tj_fO0 g
  have z : ¬ (c = 1 ∧ p = q ∧ ¬ 0 ≤ w) := fun z => g ⟨z.1, by rw [e, hE.mpr z.2.1]⟩
  rw [tj_R, tj_B, if_pos e, if_pos e, if_neg z, if_neg z]
  exact ⟨rfl, rfl⟩
theorem tj_A0 {c p q s : Nat} {w x1 x2 x3 : Int32} (hx : tj_X c p q w x1 x2 x3) (e : tj_fN s ≠ 0) (g : tj_fO c p q s ≠ 0) (y : 0 ≤ x3) : 0 = tj_R c p q w s ∧ 0 = tj_B c p q w s := by
  have e := tj_fN1 e
  have g := tj_fO1 g
  rw [(hx g.1).2.2] at y
  have z : ¬ (c = 1 ∧ p = q ∧ ¬ 0 ≤ w) := fun z => z.2.2 y
  rw [tj_R, tj_B, if_pos e, if_pos e, if_neg z, if_neg z]
  exact ⟨rfl, rfl⟩
theorem tj_A1 {m c p q s : Nat} {w x1 x2 x3 : Int32} {a1 a2 a3 : Nat → Int32} (h : tj_P m c p q w a1 a2 a3) (hx : tj_X c p q w x1 x2 x3) (e : tj_fN s ≠ 0) (g : tj_fO c p q s ≠ 0) (y : ¬ 0 ≤ x3) : 1 = tj_R c p q w s ∧ x3 = tj_B c p q w s := by
  have h7 := h.2.1
  have hp := h.2.2.1
  have hq := h.2.2.2.1
  have hE := tj_E_0 p (by omega) q (by omega)
  have e := tj_fN1 e
  have g := tj_fO1 g
  have k := (hx g.1).2.2
  rw [k] at y
  have z : c = 1 ∧ p = q ∧ ¬ 0 ≤ w := ⟨g.1, hE.mp (by rw [← g.2, e]), y⟩
  rw [tj_R, tj_B, if_pos e, if_pos e, if_pos z, if_pos z]
  exact ⟨rfl, k⟩
theorem tj_L345 {post : Int32 → St0 → Prop} {mc ms kc ks m c p q s : Nat} {w x1 x2 x3 x9 z0 : Int32} {a1 a2 a3 a4 a5 a6 a7 a8 a9 : Nat → Int32} (h : tj_P m c p q w a1 a2 a3) (hs : s < 2 ^ m) (hx : tj_X c p q w x1 x2 x3) (h9 : x9 = nI c) (hz : z0 = tj_R c p q w s) (hp1 : post 1 ()) : wL_lawOf_345 post mc ms x1 x2 x3 x9 z0 kc ks (nI m) (nI c) (nI s) a1 a2 a3 a4 a5 a6 a7 a8 a9 := by
  have h7 := h.2.1
  have hp := h.2.2.1
  have hq := h.2.2.2.1
  subst h9 hz
  unfold wL_lawOf_345
  refine tj_bestSet (post := fun r u => _) h hs (fun b4 b5 b6 b7 b8 b9 => br_t rfl ?_)
  refine tj_postman (post := fun r u => _) h (fun c4 c5 c6 c7 c8 c9 => ?_)
  rcases h.2.2.2.2 with ⟨rfl, e⟩ | ⟨rfl, e1, e2, e3, w1, w2⟩
  · rw [tj_Q, if_pos rfl]
    exact br_t rfl (br_t rfl hp1)
  · obtain ⟨rfl, rfl, rfl⟩ := hx rfl
    rw [tj_Q, if_neg (by omega)]
    refine br_f (by decide) (br_c (fun y => ?_) (fun y => ?_))
    · rw [if_pos y]
      refine pk_eq p q (fun e => ?_) (fun e => ?_)
      · rw [if_pos e]
        exact br_t rfl hp1
      · rw [if_neg e]
        exact br_t rfl hp1
    · rw [if_neg y]
      exact br_t rfl hp1
theorem tj_L299 {post : Int32 → St0 → Prop} {mc ms kc ks m c p q s : Nat} {w x1 x2 x3 x9 x13 x14 z0 : Int32} {a1 a2 a3 a4 a5 a6 a7 a8 a9 : Nat → Int32} (h : tj_P m c p q w a1 a2 a3) (hs : s < 2 ^ m) (hx : tj_X c p q w x1 x2 x3) (h9 : x9 = nI c) (h13 : x13 = nI (tj_fN s)) (h14 : x14 = nI (tj_fO c p q s)) (hz : z0 = tj_B c p q w s) (hp1 : post 1 ()) : wL_lawOf_299 post mc ms x1 x2 x3 x9 x13 x14 z0 kc ks (nI m) (nI c) (nI s) a1 a2 a3 a4 a5 a6 a7 a8 a9 := by
  have l1 := tj_fN_le s
  have l2 := tj_fO_le c p q s
  subst hz
  unfold wL_lawOf_299
  refine tj_best (post := fun r u => _) h hs (fun b4 b5 b6 b7 b8 b9 => br_t rfl ?_)
  refine pk_eq (tj_fN s) 0 (fun e => pk_eq (tj_fO c p q s) 0 (fun g => ?_) (fun g => ?_) h14) (fun e => pk_eq (tj_fO c p q s) 0 (fun g => ?_) (fun g => br_c (fun y => ?_) (fun y => ?_)) h14) h13
  · exact tj_L345 h hs hx h9 (tj_D h e g).1 hp1
  · exact tj_L345 h hs hx h9 (tj_Cc hx e g).1 hp1
  · exact tj_L345 h hs hx h9 (tj_Bb h e g).1 hp1
  · exact tj_L345 h hs hx h9 (tj_A0 hx e g y).1 hp1
  · exact tj_L345 h hs hx h9 (tj_A1 h hx e g y).1 hp1
theorem tj_L259 {post : Int32 → St0 → Prop} {mc ms kc ks m c p q s : Nat} {w x1 x2 x3 x9 x13 x14 z0 z1 z2 : Int32} {a1 a2 a3 a4 a5 a6 a7 a8 a9 : Nat → Int32} (h : tj_P m c p q w a1 a2 a3) (hs : s < 2 ^ m) (hx : tj_X c p q w x1 x2 x3) (h9 : x9 = nI c) (h13 : x13 = nI (tj_fN s)) (h14 : x14 = nI (tj_fO c p q s)) (hz : z2 = z1 + z0) (hp1 : post 1 ()) : wL_lawOf_259 post mc ms x1 x2 x3 x9 x13 x14 z0 z1 z2 kc ks (nI m) (nI c) (nI s) a1 a2 a3 a4 a5 a6 a7 a8 a9 := by
  have l1 := tj_fN_le s
  have l2 := tj_fO_le c p q s
  refine br_t hz ?_
  refine pk_eq (tj_fN s) 0 (fun e => pk_eq (tj_fO c p q s) 0 (fun g => ?_) (fun g => ?_) h14) (fun e => pk_eq (tj_fO c p q s) 0 (fun g => ?_) (fun g => br_c (fun y => ?_) (fun y => ?_)) h14) h13
  · exact tj_L299 h hs hx h9 h13 h14 (tj_D h e g).2 hp1
  · exact tj_L299 h hs hx h9 h13 h14 (tj_Cc hx e g).2 hp1
  · exact tj_L299 h hs hx h9 h13 h14 (tj_Bb h e g).2 hp1
  · exact tj_L299 h hs hx h9 h13 h14 (tj_A0 hx e g y).2 hp1
  · exact tj_L299 h hs hx h9 h13 h14 (tj_A1 h hx e g y).2 hp1
theorem tj_L232 {post : Int32 → St0 → Prop} {mc ms kc ks m c p q s : Nat} {w x1 x2 x3 x9 x13 z0 : Int32} {a1 a2 a3 a4 a5 a6 a7 a8 a9 : Nat → Int32} (h : tj_P m c p q w a1 a2 a3) (hs : s < 2 ^ m) (hx : tj_X c p q w x1 x2 x3) (h9 : x9 = nI c) (h13 : x13 = nI (tj_fN s)) (h14 : z0 = nI (tj_fO c p q s)) (hp1 : post 1 ()) : wL_lawOf_232 post mc ms x1 x2 x3 x9 x13 z0 kc ks (nI m) (nI c) (nI s) a1 a2 a3 a4 a5 a6 a7 a8 a9 := by
  have l1 := tj_fN_le s
  have l2 := tj_fO_le c p q s
  unfold wL_lawOf_232
  refine tj_joins (post := fun r u => _) h hs (fun b9 => ?_)
  have G : ∀ z y, z = nI (tj_fN s) → y = nI (tj_fO c p q s) → nI (if s = 0 then 1 else 0) + nI (if c = 1 ∧ s = tj_E p q then 1 else 0) = z + y := by
    intro z y hz hy
    rw [hz, hy]
    rfl
  refine pk_eq (tj_fN s) 0 (fun e => pk_eq (tj_fO c p q s) 0 (fun g => ?_) (fun g => ?_) h14) (fun e => pk_eq (tj_fO c p q s) 0 (fun g => ?_) (fun g => ?_) h14) h13
  · exact tj_L259 h hs hx h9 h13 h14 (G _ _ (by rw [e]; rfl) (by rw [g]; rfl)) hp1
  · exact tj_L259 h hs hx h9 h13 h14 (G _ _ (by rw [e]; rfl) (by rw [show tj_fO c p q s = 1 by omega]; rfl)) hp1
  · exact tj_L259 h hs hx h9 h13 h14 (G _ _ (by rw [show tj_fN s = 1 by omega]; rfl) (by rw [g]; rfl)) hp1
  · exact tj_L259 h hs hx h9 h13 h14 (G _ _ (by rw [show tj_fN s = 1 by omega]; rfl) (by rw [show tj_fO c p q s = 1 by omega]; rfl)) hp1
theorem tj_L213 {post : Int32 → St0 → Prop} {mc ms kc ks m c p q s : Nat} {w x1 x2 x3 x9 x11 x12 z0 : Int32} {a1 a2 a3 a4 a5 a6 a7 a8 a9 : Nat → Int32} (h : tj_P m c p q w a1 a2 a3) (hs : s < 2 ^ m) (hx : tj_X c p q w x1 x2 x3) (h9 : x9 = nI c) (h11 : x11 = nI s) (h12 : c = 1 → x12 = nI (tj_E p q)) (h13 : z0 = nI (tj_fN s)) (hp1 : post 1 ()) : wL_lawOf_213 post mc ms x1 x2 x3 x9 x11 x12 z0 kc ks (nI m) (nI c) (nI s) a1 a2 a3 a4 a5 a6 a7 a8 a9 := by
  have h7 := h.2.1
  have hp := h.2.2.1
  have hq := h.2.2.2.1
  have hc : c = 0 ∨ c = 1 := by
    rcases h.2.2.2.2 with ⟨e, _⟩ | ⟨e, _⟩ <;> omega
  have hs7 : s < 128 := Nat.lt_of_lt_of_le hs (Nat.pow_le_pow_right (by omega) h7)
  have hl : tj_E p q < 128 := tj_E_lt 7 (by omega) p (by omega) q (by omega)
  refine pk_eq c 0 (fun e => ?_) (fun e => ?_) h9
  · exact tj_L232 h hs hx h9 h13 (by rw [tj_fO, if_neg (by omega)]; rfl) hp1
  · have e1 : c = 1 := by omega
    refine pk_eq s (tj_E p q) (fun g => ?_) (fun g => ?_) h11 (h12 e1)
    · exact tj_L232 h hs hx h9 h13 (by rw [tj_fO, if_pos ⟨e1, g⟩]; rfl) hp1
    · exact tj_L232 h hs hx h9 h13 (by rw [tj_fO, if_neg (fun z => g z.2)]; rfl) hp1
theorem tj_L183 {post : Int32 → St0 → Prop} {mc ms kc ks m c p q s : Nat} {w x1 x2 x3 x9 z0 : Int32} {a1 a2 a3 a4 a5 a6 a7 a8 a9 : Nat → Int32} (h : tj_P m c p q w a1 a2 a3) (hs : s < 2 ^ m) (hx : tj_X c p q w x1 x2 x3) (h9 : x9 = nI c) (h11 : z0 = nI s) (hp1 : post 1 ()) : wL_lawOf_183 post mc ms x1 x2 x3 x9 z0 kc ks (nI m) (nI c) (nI s) a1 a2 a3 a4 a5 a6 a7 a8 a9 := by
  have h7 := h.2.1
  have hp := h.2.2.1
  have hq := h.2.2.2.1
  have hc : c = 0 ∨ c = 1 := by
    rcases h.2.2.2.2 with ⟨e, _⟩ | ⟨e, _⟩ <;> omega
  have hs7 : s < 128 := Nat.lt_of_lt_of_le hs (Nat.pow_le_pow_right (by omega) h7)
  have G : ∀ x12, (c = 1 → x12 = nI (tj_E p q)) → wL_lawOf_201 post mc ms x1 x2 x3 x9 z0 x12 kc ks (nI m) (nI c) (nI s) a1 a2 a3 a4 a5 a6 a7 a8 a9 := by
    intro x12 h12
    refine pk_eq s 0 (fun e => ?_) (fun e => ?_) h11
    · exact tj_L213 h hs hx h9 h11 h12 (by rw [tj_fN, if_pos e]; rfl) hp1
    · exact tj_L213 h hs hx h9 h11 h12 (by rw [tj_fN, if_neg e]; rfl) hp1
  refine pk_eq c 0 (fun e => ?_) (fun e => ?_) h9
  · exact G _ (fun z => absurd z (by omega))
  · refine G _ (fun z => ?_)
    rw [(hx z).1, (hx z).2.1]
    exact tj_E_I (by omega) (by omega)
theorem tj_L124 {post : Int32 → St0 → Prop} {mc ms kc ks m c p q : Nat} {w x1 x2 x3 x4 x6 x9 z0 z1 : Int32} {a1 a2 a3 a4 a5 a6 a7 a8 a9 : Nat → Int32} (h : tj_P m c p q w a1 a2 a3) (hx : tj_X c p q w x1 x2 x3) (h9 : x9 = nI c) (h6 : x6 = nI m) (hz : z1 = z0) (hp1 : post 1 ()) : wL_lawOf_124 post mc ms x1 x2 x3 x4 x6 x9 z0 z1 kc ks (nI m) (nI c) (nI 0) a1 a2 a3 a4 a5 a6 a7 a8 a9 := by
  have h7 := h.2.1
  have hm := tj_sh m (by omega)
  have h2m : 2 ^ m < 2 ^ 31 := Nat.lt_of_le_of_lt (Nat.pow_le_pow_right (by omega) h7) (by omega)
  have hpos : 0 < 2 ^ m := Nat.pow_pos (by omega)
  subst h6
  refine br_t hz ?_
  rw [hm]
  have B : (x4 < 0 ∨ ¬ x4 < 0 ∧ ¬ x4 < nI (2 ^ m)) → wL_lawOf_147 post mc ms x1 x2 x3 x4 x9 kc ks (nI m) (nI c) (nI 0) a1 a2 a3 a4 a5 a6 a7 a8 a9 := by
    intro hb
    have e : wL_lawOf_167 post mc ms x1 x2 x3 x4 x9 0 (-1) (-1) kc ks (nI m) (nI c) (nI 0) a1 a2 a3 a4 a5 a6 a7 a8 a9 := br_t rfl (br_t rfl (tj_L183 h hpos hx h9 rfl hp1))
    unfold wL_lawOf_147 wL_lawOf_148 wpX_want
    dsimp only
    rw [hm]
    rcases hb with hb | ⟨hb, hb2⟩
    · exact br_t hb (br_t rfl e)
    · exact br_f hb (br_f hb2 (br_t rfl e))
  rcases pk_ix x4 h2m with e | e | ⟨s, hs, rfl⟩
  · exact br_t e (B (Or.inl e))
  · have e0 : ¬ x4 < 0 := by
      rw [Int32.le_iff_toInt_le, nI_toInt h2m] at e
      rw [Int32.lt_iff_toInt_lt, show (0 : Int32).toInt = 0 by decide]
      omega
    have e1 : ¬ x4 < nI (2 ^ m) := by
      rw [Int32.le_iff_toInt_le] at e
      rw [Int32.lt_iff_toInt_lt]
      omega
    exact br_f e0 (br_t e (B (Or.inr ⟨e0, e1⟩)))
  · have e0 : ¬ nI s < 0 := nI_pos (by omega)
    refine br_f e0 (br_f (nI_ge hs h2m) ?_)
    unfold wL_lawOf_148 wpX_want
    dsimp only
    rw [hm]
    exact br_f e0 (br_t (nI_lt hs h2m) (br_f (by decide) (br_t rfl (br_f (by decide) (tj_L183 h hs hx h9 rfl hp1)))))
def tj_Nm (m : Nat) (x1 x2 : Int32) : Prop := ∃ p q, p < m ∧ q < m ∧ x1 = nI p ∧ x2 = nI q
def tj_Nr (x3 : Int32) : Prop := ¬ x3 < (-9) ∧ x3 ≤ 20
theorem tj_isPlace {post : Int32 → Prop} {m : Nat} {x fc fw : Int32} {a1 a2 a3 a4 a5 a6 a7 a8 a9 : Nat → Int32} (hm : m ≤ 7) (H1 : (∃ p, p < m ∧ x = nI p) → post 1) (H0 : ¬ (∃ p, p < m ∧ x = nI p) → post 0) : wpX_isPlace post (nI m, fc, fw, a1, a2, a3, a4, a5, a6, a7, a8, a9) x := by
  refine br_c (fun e => H0 ?_) (fun e => br_c (fun g => H0 ?_) (fun g => H1 ?_))
  · intro z
    obtain ⟨p, hp, rfl⟩ := z
    exact nI_pos (by omega) e
  · intro z
    obtain ⟨p, hp, rfl⟩ := z
    exact nI_ge hp (by omega) g
  · rcases pk_ix x (show m < 2 ^ 31 by omega) with z | z | z
    · exact absurd z e
    · exact absurd z g
    · exact z
theorem tj_road {post : Int32 → St2 → Prop} {m : Nat} {x1 x2 x3 : Int32} {a1 a2 a3 a4 a5 a6 a7 a8 a9 : Nat → Int32} (hm : m ≤ 7)
    (H0 : ¬ tj_Nm m x1 x2 → post (-1) (nI m, nI 0, nI 0, a1, a2, a3, a4, a5, a6, a7, a8, a9)) (H1 : tj_Nm m x1 x2 → ¬ tj_Nr x3 → post (-2) (nI m, nI 0, nI 0, a1, a2, a3, a4, a5, a6, a7, a8, a9))
    (H2 : tj_Nm m x1 x2 → tj_Nr x3 → post 0 (nI m, nI 1, nI 0, upd a1 0 x1, upd a2 0 x2, upd a3 0 x3, a4, a5, a6, a7, a8, a9)) : wpX_road post (nI m, nI 0, nI 0, a1, a2, a3, a4, a5, a6, a7, a8, a9) x1 x2 x3 := by
  unfold wpX_road
  dsimp only
  refine tj_isPlace hm (fun g => ?_) (fun g => br_t rfl (H0 ?_))
  · refine br_f (by decide) ?_
    refine tj_isPlace hm (fun k => ?_) (fun k => br_t rfl (H0 ?_))
    · refine br_f (by decide) ?_
      have hN : tj_Nm m x1 x2 := by
        obtain ⟨p, hp, e1⟩ := g
        obtain ⟨q, hq, e2⟩ := k
        exact ⟨p, q, hp, hq, e1, e2⟩
      refine br_c (fun y => H1 hN (fun z => z.1 y)) (fun y => br_c (fun y2 => br_f (by decide) ?_) (fun y2 => H1 hN (fun z => y2 z.2)))
      exact ⟨pk_in 0 12 (by omega), nm_e ⟨pk_in 0 12 (by omega), nm_e ⟨pk_in 0 12 (by omega), nm_e (nm_r (nI_1 0) (H2 hN ⟨y, y2⟩))⟩⟩⟩
    · intro z
      obtain ⟨p, q, hp, hq, e1, e2⟩ := z
      exact k ⟨q, hq, e2⟩
  · intro z
    obtain ⟨p, q, hp, hq, e1, e2⟩ := z
    exact g ⟨p, hp, e1⟩
theorem tj_L94 {post : Int32 → St0 → Prop} {mc ms kc ks m : Nat} {x1 x2 x3 x4 x6 x7 x8 z0 : Int32} {a1 a2 a3 a4 a5 a6 a7 a8 a9 : Nat → Int32} (h2 : 2 ≤ m) (hm : m ≤ 7) (h6 : x6 = nI m)
    (h7 : (tj_Nm m x1 x2 ∧ ¬ x7 = 0) ∨ (¬ tj_Nm m x1 x2 ∧ x7 = 0)) (h8 : (tj_Nr x3 ∧ ¬ x8 = 0) ∨ (¬ tj_Nr x3 ∧ x8 = 0)) (h9 : (tj_Nm m x1 x2 ∧ tj_Nr x3 ∧ z0 = 1) ∨ (¬ (tj_Nm m x1 x2 ∧ tj_Nr x3) ∧ z0 = 0)) (hp1 : post 1 ()) : wL_lawOf_94 post mc ms x1 x2 x3 x4 x6 x7 x8 z0 kc ks (nI m) (nI 0) (nI 0) a1 a2 a3 a4 a5 a6 a7 a8 a9 := by
  have P0 : tj_P m 0 0 0 0 a1 a2 a3 := ⟨h2, hm, by omega, by omega, Or.inl ⟨rfl, rfl⟩⟩
  have X0 : tj_X 0 0 0 0 x1 x2 x3 := fun z => absurd z (by omega)
  unfold wL_lawOf_94
  refine tj_road (post := fun r u => _) hm (fun g => ?_) (fun g k => ?_) (fun g k => ?_)
  · have e7 : x7 = 0 := by
      rcases h7 with z | z
      · exact absurd z.1 g
      · exact z.2
    have e9 : z0 = 0 := by
      rcases h9 with z | z
      · exact absurd z.1 g
      · exact z.2
    exact br_t e7 (tj_L124 P0 X0 e9 h6 rfl hp1)
  · have e7 : ¬ x7 = 0 := by
      rcases h7 with z | z
      · exact z.2
      · exact absurd g z.1
    have e8 : x8 = 0 := by
      rcases h8 with z | z
      · exact absurd z.1 k
      · exact z.2
    have e9 : z0 = 0 := by
      rcases h9 with z | z
      · exact absurd z.2.1 k
      · exact z.2
    exact br_f e7 (br_t e8 (tj_L124 P0 X0 e9 h6 rfl hp1))
  · have e7 : ¬ x7 = 0 := by
      rcases h7 with z | z
      · exact z.2
      · exact absurd g z.1
    have e8 : ¬ x8 = 0 := by
      rcases h8 with z | z
      · exact z.2
      · exact absurd k z.1
    have e9 : z0 = 1 := by
      rcases h9 with z | z
      · exact z.2.2
      · exact absurd ⟨g, k⟩ z.1
    obtain ⟨p, q, hp, hq, e1, e2⟩ := g
    have P1 : tj_P m 1 p q x3 (upd a1 0 x1) (upd a2 0 x2) (upd a3 0 x3) := ⟨h2, hm, hp, hq, Or.inr ⟨rfl, pk_us.trans e1, pk_us.trans e2, pk_us, k.1, k.2⟩⟩
    exact br_f e7 (br_f e8 (tj_L124 P1 (fun _ => ⟨e1, e2, rfl⟩) e9 h6 rfl hp1))
theorem tj_L58 {post : Int32 → St0 → Prop} {mc ms kc ks m : Nat} {x1 x2 x3 x4 x6 x7 : Int32} {a1 a2 a3 a4 a5 a6 a7 a8 a9 : Nat → Int32} (h2 : 2 ≤ m) (hm : m ≤ 7) (h6 : x6 = nI m)
    (h7 : (tj_Nm m x1 x2 ∧ ¬ x7 = 0) ∨ (¬ tj_Nm m x1 x2 ∧ x7 = 0)) (hp1 : post 1 ()) : wL_lawOf_58 post mc ms x1 x2 x3 x4 x6 x7 kc ks (nI m) (nI 0) (nI 0) a1 a2 a3 a4 a5 a6 a7 a8 a9 := by
  have G : ∀ x8, ((tj_Nr x3 ∧ ¬ x8 = 0) ∨ (¬ tj_Nr x3 ∧ x8 = 0)) → wL_lawOf_77 post mc ms x1 x2 x3 x4 x6 x7 x8 kc ks (nI m) (nI 0) (nI 0) a1 a2 a3 a4 a5 a6 a7 a8 a9 := by
    intro x8 h8
    refine br_c (fun e => ?_) (fun e => br_c (fun g => ?_) (fun g => ?_))
    · refine tj_L94 h2 hm h6 h7 h8 (Or.inr ⟨fun z => ?_, rfl⟩) hp1
      rcases h7 with y | y
      · exact y.2 e
      · exact y.1 z.1
    · refine tj_L94 h2 hm h6 h7 h8 (Or.inr ⟨fun z => ?_, rfl⟩) hp1
      rcases h8 with y | y
      · exact y.2 g
      · exact y.1 z.2
    · refine tj_L94 h2 hm h6 h7 h8 (Or.inl ⟨?_, ?_, rfl⟩) hp1
      · rcases h7 with y | y
        · exact y.1
        · exact absurd y.2 e
      · rcases h8 with y | y
        · exact y.1
        · exact absurd y.2 g
  refine br_c (fun e => G 0 (Or.inr ⟨fun z => z.1 e, rfl⟩)) (fun e => br_c (fun g => G 0 (Or.inr ⟨fun z => ?_, rfl⟩)) (fun g => G 1 (Or.inl ⟨⟨e, ?_⟩, by decide⟩)))
  · have z := z.2
    rw [Int32.le_iff_toInt_le] at z
    rw [Int32.lt_iff_toInt_lt] at g
    omega
  · rw [Int32.lt_iff_toInt_lt] at g
    rw [Int32.le_iff_toInt_le]
    omega
theorem tj_L31 {post : Int32 → St0 → Prop} {mc ms kc ks m : Nat} {x1 x2 x3 x4 z0 : Int32} {a1 a2 a3 a4 a5 a6 a7 a8 a9 : Nat → Int32} (h2 : 2 ≤ m) (hm : m ≤ 7) (h6 : z0 = nI m) (hp1 : post 1 ()) : wL_lawOf_31 post mc ms x1 x2 x3 x4 z0 kc ks (nI m) (nI 0) (nI 0) a1 a2 a3 a4 a5 a6 a7 a8 a9 := by
  subst h6
  have N : ¬ tj_Nm m x1 x2 → wL_lawOf_57 post mc ms x1 x2 x3 x4 (nI m) kc ks (nI m) (nI 0) (nI 0) a1 a2 a3 a4 a5 a6 a7 a8 a9 := fun g => tj_L58 h2 hm rfl (Or.inr ⟨g, rfl⟩) hp1
  refine br_c (fun e1 => N (fun z => ?_)) (fun e1 => br_c (fun e2 => N (fun z => ?_)) (fun e2 => br_c (fun e3 => N (fun z => ?_)) (fun e3 => br_c (fun e4 => N (fun z => ?_)) (fun e4 => tj_L58 h2 hm rfl (Or.inl ⟨?_, by decide⟩) hp1))))
  · obtain ⟨p, q, hp, hq, rfl, rfl⟩ := z
    exact nI_pos (by omega) e1
  · obtain ⟨p, q, hp, hq, rfl, rfl⟩ := z
    exact nI_ge hp (by omega) e2
  · obtain ⟨p, q, hp, hq, rfl, rfl⟩ := z
    exact nI_pos (by omega) e3
  · obtain ⟨p, q, hp, hq, rfl, rfl⟩ := z
    exact nI_ge hq (by omega) e4
  · rcases pk_ix x1 (show m < 2 ^ 31 by omega) with z | z | ⟨p, hp, z⟩
    · exact absurd z e1
    · exact absurd z e2
    · rcases pk_ix x2 (show m < 2 ^ 31 by omega) with y | y | ⟨q, hq, y⟩
      · exact absurd y e3
      · exact absurd y e4
      · exact ⟨p, q, hp, hq, z, y⟩
theorem tj_lawOf {post : Int32 → St0 → Prop} (p0 p1 p2 p3 p4 : Int32) (hp1 : post 1 ()) : wpL_lawOf post 232 3712 () p0 p1 p2 p3 p4 := by
  refine ⟨by omega, by omega, 9, 409, by omega, by omega, ?_⟩
  refine ⟨by omega, by omega, by omega, by omega, by omega, by omega, by omega, by omega, by omega, by omega, by omega, by omega, by omega, by omega, by omega, by omega, by omega, by omega, ?_⟩
  refine br_c (fun e => br_c (fun g => br_t e (br_t g ?_)) (fun g => br_t e (br_f g ?_))) (fun e => br_t (by decide) (br_f e ?_))
  · have hm : ∃ m : Nat, 2 ≤ m ∧ m ≤ 7 ∧ p0 = nI m := by
      have e2 : (2 : Int32).toInt = 2 := by decide
      have e7 : (7 : Int32).toInt = 7 := by decide
      have h0 : ¬ p0 < 0 := by
        rw [Int32.lt_iff_toInt_lt, show (0 : Int32).toInt = 0 by decide]
        rw [Int32.le_iff_toInt_le, e2] at e
        omega
      obtain ⟨j, hj, rfl⟩ := nI_of2 (n := 7) e7 h0 g
      rw [Int32.le_iff_toInt_le, nI_toInt (by omega), e2] at e
      exact ⟨j, by omega, hj, rfl⟩
    obtain ⟨m, h2, h7, rfl⟩ := hm
    exact tj_L31 h2 h7 rfl hp1
  · exact tj_L31 (m := 7) (by omega) (by omega) rfl hp1
  · exact tj_L31 (m := 2) (by omega) (by omega) rfl hp1
theorem tj_cell {post : Int32 → Prop} {L : Nat} {xs : Nat → Int32} {u : St0} {x : Int32} (k : Nat) (hk : k < 5) (hL : L ≤ 5) (hx : x = nI k) (H : ∀ r, post r) : wpL_cellAt post L xs u x := by
  subst hx
  exact pk_le L k (fun _ => H _) (fun z => ⟨pk_in k L z, H _⟩)
theorem i_vc (xs : Nat → Int32) (L : Nat) (hL : L ≤ 5) : wpL_law (fun r => r = 1) L xs := by
  refine tj_cell (post := fun r => _) 0 (by omega) hL rfl (fun r1 => ?_)
  refine tj_cell (post := fun r => _) 1 (by omega) hL rfl (fun r2 => ?_)
  refine tj_cell (post := fun r => _) 2 (by omega) hL rfl (fun r3 => ?_)
  refine tj_cell (post := fun r => _) 3 (by omega) hL rfl (fun r4 => ?_)
  refine tj_cell (post := fun r => _) 4 (by omega) hL rfl (fun r5 => ?_)
  exact ⟨232, 3712, by omega, by omega, tj_lawOf r1 r2 r3 r4 r5 rfl⟩
end
