section
/-! ===== Int32 by its bits: bt x i ===== -/
def bt (x : Int32) (i : Nat) : Bool := x.toBitVec.getLsbD i
theorem b_ext {x y : Int32} (h : ∀ i, i < 32 → bt x i = bt y i) : x = y := Int32.toBitVec_inj.mp (BitVec.eq_of_getLsbD_eq (fun i hi => h i hi))
theorem b_or (x y : Int32) (i : Nat) : bt (x ||| y) i = (bt x i || bt y i) := by unfold bt; rw [Int32.toBitVec_or, BitVec.getLsbD_or]
theorem b_and (x y : Int32) (i : Nat) : bt (x &&& y) i = (bt x i && bt y i) := by unfold bt; rw [Int32.toBitVec_and, BitVec.getLsbD_and]
theorem b_xor (x y : Int32) (i : Nat) : bt (x ^^^ y) i = (bt x i ^^ bt y i) := by unfold bt; rw [Int32.toBitVec_xor, BitVec.getLsbD_xor]
theorem b_big {x : Int32} {i : Nat} (h : 32 ≤ i) : bt x i = false := BitVec.getLsbD_of_ge _ _ h
theorem b_65535 (i : Nat) : bt 65535 i = decide (i < 16) := by
  rcases Nat.lt_or_ge i 32 with h | h
  · exact (by decide +kernel : ∀ i, i < 32 → bt 65535 i = decide (i < 16)) i h
  · rw [b_big h, decide_eq_false (by omega)]
theorem b_m1 : ∀ i, i < 32 → bt (-1) i = true := by decide +kernel
theorem b_0 (i : Nat) : bt 0 i = false := BitVec.getLsbD_zero
theorem s_l : ∀ n, n < 32 → ((nI n &&& 31).toBitVec.smod 32).toNat = n := by decide +kernel
theorem b_shl (n : Nat) (hn : n < 32) (x : Int32) {i : Nat} (hi : i < 32) : bt (x <<< (nI n &&& 31)) i = (decide (n ≤ i) && bt x (i - n)) := by
  unfold bt
  rw [Int32.toBitVec_shiftLeft]
  show (x.toBitVec <<< ((nI n &&& 31).toBitVec.smod 32).toNat).getLsbD i = _
  rw [s_l n hn, BitVec.getLsbD_shiftLeft]
  rcases Nat.lt_or_ge i n with h | h
  · simp [h, Nat.not_le.mpr h]
  · simp [hi, h, Nat.not_lt.mpr h]
theorem b_sshr (n : Nat) (hn : n < 32) (x : Int32) {i : Nat} (hi : i < 32) : bt (x >>> (nI n &&& 31)) i = if n + i < 32 then bt x (n + i) else bt x 31 := by
  unfold bt
  rw [Int32.toBitVec_shiftRight]
  show (x.toBitVec.sshiftRight ((nI n &&& 31).toBitVec.smod 32).toNat).getLsbD i = _
  rw [s_l n hn, BitVec.getLsbD_sshiftRight, BitVec.msb_eq_getLsbD_last]
  simp [hi]
/-! ===== own rows on bits ===== -/
theorem wf_one : ∀ c, c < 16 → ∀ e, e < 32 → bt ((1 : Int32) <<< (nI c &&& 31)) e = decide (e = c) := by decide +kernel
theorem wf_b1 : ∀ i, i < 32 → bt 1 i = decide (i = 0) := by decide +kernel
theorem wf_lt {x : Int32} {i : Nat} (h : bt x i = true) : i < 32 := by
  rcases Nat.lt_or_ge i 32 with z | z
  · exact z
  · rw [b_big z] at h
    exact absurd h (by decide)
theorem wf_tst {m : Int32} {c : Nat} (hc : c < 16) : (m >>> (nI c &&& 31)) &&& 1 = if bt m c = true then 1 else 0 := by
  apply b_ext
  intro i hi
  rw [b_and, b_sshr c (by omega) m hi, wf_b1 i hi]
  by_cases h0 : i = 0
  · subst h0
    rw [if_pos (show c + 0 < 32 by omega), Nat.add_zero]
    cases bt m c <;> decide +kernel
  · rw [decide_eq_false h0, Bool.and_false]
    cases bt m c
    · rw [if_neg (by decide), b_0]
    · rw [if_pos rfl, wf_b1 i hi, decide_eq_false h0]
theorem wf_t1 {m : Int32} {c : Nat} (hc : c < 16) : ((m >>> (nI c &&& 31)) &&& 1) = 1 ↔ bt m c = true := by
  rw [wf_tst hc]
  cases bt m c <;> decide
theorem wf_t0 {m : Int32} {c : Nat} (hc : c < 16) : ((m >>> (nI c &&& 31)) &&& 1) = 0 ↔ bt m c = false := by
  rw [wf_tst hc]
  cases bt m c <;> decide
theorem wf_or1 {m : Int32} {c e : Nat} (hc : c < 16) (he : e < 32) : bt (m ||| ((1 : Int32) <<< (nI c &&& 31))) e = true ↔ bt m e = true ∨ e = c := by
  rw [b_or, wf_one c hc e he]
  simp
theorem wf_or {x y : Int32} {e : Nat} : bt (x ||| y) e = true ↔ bt x e = true ∨ bt y e = true := by
  rw [b_or]
  simp
theorem wf_and {x y : Int32} {e : Nat} : bt (x &&& y) e = true ↔ bt x e = true ∧ bt y e = true := by
  rw [b_and]
  simp
theorem wf_and0 {x y : Int32} : x &&& y = 0 ↔ ∀ i, ¬ (bt x i = true ∧ bt y i = true) := by
  constructor
  · intro h i hxy
    have t := b_and x y i
    rw [h, b_0, hxy.1, hxy.2] at t
    exact absurd t (by decide)
  · intro h
    apply b_ext
    intro i hi
    rw [b_and, b_0]
    have hi' := h i
    cases hx : bt x i
    · rfl
    · cases hy : bt y i
      · rfl
      · exact absurd ⟨hx, hy⟩ hi'
theorem wf_andN {x y : Int32} (h : ¬ x &&& y = 0) : ∃ i, bt x i = true ∧ bt y i = true :=
  Classical.byContradiction fun n => h (wf_and0.mpr (fun i hi => n ⟨i, hi⟩))
theorem wf_not {x : Int32} {i : Nat} (hi : i < 32) : bt (x ^^^ (-1)) i = true ↔ bt x i = false := by
  rw [b_xor, b_m1 i hi]
  cases bt x i <;> decide
theorem wf_sub0 {x m : Int32} : x &&& (m ^^^ (-1)) = 0 ↔ ∀ e, bt x e = true → bt m e = true := by
  rw [wf_and0]
  constructor
  · intro h e he
    cases hm : bt m e
    · exact absurd ⟨he, (wf_not (wf_lt he)).mpr hm⟩ (h e)
    · rfl
  · intro h e he
    have h1 := h e he.1
    rw [(wf_not (wf_lt he.1)).mp he.2] at h1
    exact absurd h1 (by decide)
theorem wf_f {b : Bool} (h : ¬ b = true) : b = false := by
  cases b
  · rfl
  · exact absurd rfl h
theorem wf_nf {b : Bool} (h : b = false) : ¬ b = true := by
  rw [h]
  decide
end
section
/-! ===== the picture: formulas, order, consistency ===== -/
def wf_tv (k a : Int32) (w : Nat → Int32) : Int32 := if k = 0 then a else w a.toNatClampNeg
def wf_op (k x y : Int32) : Int32 := if k = 2 then x + y else if k = 3 then x - y else if k = 4 then x * y else if y ≤ x then y else x
def wf_ev (n : Int32) (k a w : Nat → Int32) : Int32 :=
  if n = 3 then wf_op (k 2) (wf_tv (k 0) (a 0) w) (wf_tv (k 1) (a 1) w) else if wf_tv (k 0) (a 0) w ≤ 0 then wf_tv (k 2) (a 2) w else wf_tv (k 1) (a 1) w
/-- an operand: a number, or a cell that the mask m holds -/
def wf_opd (k a m : Int32) : Prop := k = 0 ∨ (k = 1 ∧ ∃ e, e < 16 ∧ a = nI e ∧ bt m e = true)
/-- the shapes of formulas: none, two operands and an operation, three operands and a pick -/
def wf_shp (n m : Int32) (k a : Nat → Int32) : Prop :=
  n = 0 ∨ (n = 3 ∧ wf_opd (k 0) (a 0) m ∧ wf_opd (k 1) (a 1) m ∧ (k 2 = 2 ∨ k 2 = 3 ∨ k 2 = 4 ∨ k 2 = 5)) ∨ (n = 4 ∧ wf_opd (k 0) (a 0) m ∧ wf_opd (k 1) (a 1) m ∧ wf_opd (k 2) (a 2) m ∧ k 3 = 7)
def wf_bl (a : Nat → Int32) (c : Nat) : Nat → Int32 := fun i => a (c * 8 + i)
def wf_E (n k a : Nat → Int32) (c : Nat) (w : Nat → Int32) : Int32 := wf_ev (n c) (wf_bl k c) (wf_bl a c) w
def wf_ord (nm od : Nat → Int32) (f p : Nat → Nat) : Prop :=
  (∀ i, i < 16 → f i < 16 ∧ od i = nI (f i) ∧ p (f i) = i) ∧ (∀ c, c < 16 → p c < 16 ∧ f (p c) = c) ∧ (∀ c, c < 16 → ∀ e, bt (nm c) e = true → e < 16 ∧ p e < p c)
def wf_shs (n k a m : Nat → Int32) : Prop := ∀ c, c < 16 → wf_shp (n c) (m c) (wf_bl k c) (wf_bl a c)
def wf_con (n k a w : Nat → Int32) : Prop := ∀ c, c < 16 → ¬ n c = 0 → w c = wf_E n k a c w
theorem wf_tv_c {k a m : Int32} {w w' : Nat → Int32} (h : wf_opd k a m) (hw : ∀ e, e < 16 → bt m e = true → w e = w' e) : wf_tv k a w = wf_tv k a w' := by
  unfold wf_tv
  rcases h with h | ⟨h, e, he, ha, hb⟩
  · rw [if_pos h, if_pos h]
  · rw [h, if_neg (by decide), if_neg (by decide), ha, nI_clamp (by omega), hw e he hb]
theorem wf_ev_c {n m : Int32} {k a w w' : Nat → Int32} (h : wf_shp n m k a) (h0 : ¬ n = 0) (hw : ∀ e, e < 16 → bt m e = true → w e = w' e) : wf_ev n k a w = wf_ev n k a w' := by
  unfold wf_ev
  rcases h with h | ⟨h, h1, h2, h3⟩ | ⟨h, h1, h2, h3, h4⟩
  · exact absurd h h0
  · rw [if_pos h, if_pos h, wf_tv_c h1 hw, wf_tv_c h2 hw]
  · have h5 : ¬ n = 3 := by
      rw [h]
      decide
    rw [if_neg h5, if_neg h5, wf_tv_c h1 hw, wf_tv_c h2 hw, wf_tv_c h3 hw]
theorem wf_E_c {n k a m : Nat → Int32} {c : Nat} {w w' : Nat → Int32} (h : wf_shs n k a m) (hc : c < 16) (h0 : ¬ n c = 0) (hw : ∀ e, e < 16 → bt (m c) e = true → w e = w' e) : wf_E n k a c w = wf_E n k a c w' :=
  wf_ev_c (h c hc) h0 hw
theorem wf_len {n m : Int32} {k a : Nat → Int32} (h : wf_shp n m k a) (h0 : ¬ n = 0) : ¬ n ≤ 0 := by
  rcases h with h | ⟨h, _⟩ | ⟨h, _⟩
  · exact absurd h h0
  · rw [h]
    decide
  · rw [h]
    decide
/-- a mask may grow -/
theorem wf_opd_m {k a m m' : Int32} (h : wf_opd k a m) (hm : ∀ e, k = 1 → e < 16 → a = nI e → bt m' e = true) : wf_opd k a m' := by
  rcases h with h | ⟨h, e, he, ha, hb⟩
  · exact Or.inl h
  · exact Or.inr ⟨h, e, he, ha, hm e h he ha⟩
/-- the shape of a cell rests on its own block alone -/
theorem wf_shp_c {n n' m m' : Int32} {k a k' a' : Nat → Int32} (h : wf_shp n m k a) (hn : n' = n) (hm : m' = m) (hk : ∀ i, i < 8 → k' i = k i) (ha : ∀ i, i < 8 → a' i = a i) : wf_shp n' m' k' a' := by
  unfold wf_shp
  rw [hn, hm, hk 0 (by omega), hk 1 (by omega), hk 2 (by omega), hk 3 (by omega), ha 0 (by omega), ha 1 (by omega), ha 2 (by omega)]
  exact h
theorem wf_ev_b {n n' : Int32} {k a k' a' w : Nat → Int32} (hn : n' = n) (hk : ∀ i, i < 8 → k' i = k i) (ha : ∀ i, i < 8 → a' i = a i) : wf_ev n' k' a' w = wf_ev n k a w := by
  unfold wf_ev
  rw [hn, hk 0 (by omega), hk 1 (by omega), hk 2 (by omega), ha 0 (by omega), ha 1 (by omega), ha 2 (by omega)]
/-! ===== loops whose end is one for every post ===== -/
theorem wf_lp {P σ R : Type} (ap : P → R → Prop) (W : P → Nat → Nat → σ → Prop) (I : Nat → σ → Prop) (Q : R → Prop) (e : Nat)
    (hx : ∀ s, I e s → ∃ r, Q r ∧ ∀ post : P, ap post r → ∃ n, W post n e s)
    (hs : ∀ i s, i < e → I i s → ∃ s', I (i + 1) s' ∧ ∀ (post : P) n, W post n (i + 1) s' → W post (n + 1) i s) :
    ∀ d i s, i + d = e → I i s → ∃ r, Q r ∧ ∀ post : P, ap post r → ∃ n, W post n i s := by
  intro d
  induction d with
  | zero =>
    intro i s hi h
    have hi' : i = e := by omega
    rw [hi'] at h
    obtain ⟨r, hq, hr⟩ := hx s h
    refine ⟨r, hq, fun post hp => ?_⟩
    rw [hi']
    exact hr post hp
  | succ d ih =>
    intro i s hi h
    obtain ⟨s', h', hw⟩ := hs i s (by omega) h
    obtain ⟨r, hq, hr⟩ := ih (i + 1) s' (by omega) h'
    refine ⟨r, hq, fun post hp => ?_⟩
    obtain ⟨n, hn⟩ := hr post hp
    exact ⟨n + 1, hw post n hn⟩
/-! ===== the doves in their holes ===== -/
theorem wf_dv : ∀ n (l : List Nat), l.Nodup → (∀ x, x ∈ l → x < n) → l.length ≤ n := by
  intro n
  induction n with
  | zero =>
    intro l _ h
    cases l with
    | nil => exact Nat.le_refl 0
    | cons x l => exact absurd (h x (List.mem_cons_self ..)) (Nat.not_lt_zero x)
  | succ n ih =>
    intro l hn h
    have h1 := ih (l.erase n) (hn.erase n) (fun x hx => by
      have h2 := h x (List.mem_of_mem_erase hx)
      have h3 : x ≠ n := fun e => by
        rw [e] at hx
        exact absurd hx (by simp [hn.mem_erase_iff])
      omega)
    have h4 := List.length_erase (a := n) (l := l)
    split at h4 <;> omega
/-- one to one on numbers below n: onto -/
theorem wf_onto {n : Nat} {f : Nat → Nat} (hf : ∀ i, i < n → f i < n) (hj : ∀ i j, i < n → j < n → f i = f j → i = j) (c : Nat) (hc : c < n) : ∃ i, i < n ∧ f i = c := by
  refine Classical.byContradiction fun q => ?_
  have h1 : (c :: (List.range n).map f).Nodup := by
    refine List.nodup_cons.mpr ⟨fun z => ?_, ?_⟩
    · obtain ⟨i, hi, e⟩ := List.mem_map.mp z
      exact q ⟨i, List.mem_range.mp hi, e⟩
    · refine List.pairwise_map.mpr ?_
      refine List.Pairwise.imp_of_mem ?_ (List.nodup_range (n := n))
      intro a b ha hb hab e
      exact hab (hj a b (List.mem_range.mp ha) (List.mem_range.mp hb) e)
  have h2 := wf_dv n _ h1 (fun x hx => by
    rcases List.mem_cons.mp hx with e | z
    · rw [e]
      exact hc
    · obtain ⟨i, hi, e⟩ := List.mem_map.mp z
      rw [← e]
      exact hf i (List.mem_range.mp hi))
  rw [List.length_cons, List.length_map, List.length_range] at h2
  omega
/-- fewer than n numbers don't fill n places -/
theorem wf_gap : ∀ n (l : List Nat), l.length < n → ∃ c, c < n ∧ ¬ c ∈ l := by
  intro n
  induction n with
  | zero => exact fun l h => absurd h (by omega)
  | succ n ih =>
    intro l h
    by_cases hm : n ∈ l
    · have h1 := List.length_erase_of_mem hm
      have h2 : 0 < l.length := List.length_pos_of_mem hm
      obtain ⟨c, hc, hn⟩ := ih (l.erase n) (by omega)
      exact ⟨c, by omega, fun z => hn ((List.mem_erase_of_ne (by omega)).mpr z)⟩
    · exact ⟨n, by omega, hm⟩
theorem wf_free {n i : Nat} (f : Nat → Nat) (hi : i < n) : ∃ c, c < n ∧ ∀ j, j < i → ¬ f j = c := by
  obtain ⟨c, hc, h⟩ := wf_gap n ((List.range i).map f) (by rw [List.length_map, List.length_range]; exact hi)
  exact ⟨c, hc, fun j hj e => h (List.mem_map.mpr ⟨j, List.mem_range.mpr hj, e⟩)⟩
end
section
/-! ===== walks: the small members ===== -/
section
variable {ty ro co : Int32} {a1 a2 a3 a4 a5 a6 a7 a8 a9 a10 a11 a12 a13 : Nat → Int32}
theorem wf_off {post : Int32 → Prop} {c : Nat} (hc : c < 16) (h : post 0) : wpX_off post () (nI c) :=
  pk_lt c 0 (fun z => absurd z (by omega)) (fun _ => pk_lt c 16 (fun _ => h) (fun z => absurd z (by omega)))
theorem wf_value {post : Int32 → Prop} {c : Nat} (hc : c < 16) (h : post (a5 c)) : wpX_value post (ty, ro, co, a1, a2, a3, a4, a5, a6, a7, a8, a9, a10, a11, a12, a13) (nI c) := by
  unfold wpX_value
  exact wf_off hc (br_t rfl ⟨pk_in c 16 hc, by rw [nI_clamp (by omega)]; exact h⟩)
theorem wf_isF {post : Int32 → Prop} {c : Nat} (hc : c < 16) (h : post (if a1 c ≤ 0 then 0 else 1)) : wpX_isFormula post (ty, ro, co, a1, a2, a3, a4, a5, a6, a7, a8, a9, a10, a11, a12, a13) (nI c) := by
  unfold wpX_isFormula
  refine wf_off hc (br_t rfl ⟨pk_in c 16 hc, ?_⟩)
  rw [nI_clamp (by omega)]
  by_cases hz : a1 c ≤ 0
  · rw [if_pos hz] at h
    exact br_t hz h
  · rw [if_neg hz] at h
    exact br_f hz h
theorem wf_in9 {post : Int32 → St1 → Prop} {v : Int32} {z n : Nat} (hz : z < 2) (hn : n < 4) (h : a10 z = nI n)
    (H : post (nI (n + 1)) (ty, ro, co, a1, a2, a3, a4, a5, a6, a7, a8, upd a9 (z * 4 + n) v, upd a10 z (nI (n + 1)), a11, a12, a13)) : wX_input_9 post v (nI z) ty ro co a1 a2 a3 a4 a5 a6 a7 a8 a9 a10 a11 a12 a13 := by
  have e : nI z * 4 + nI n = nI (z * 4 + n) := by
    rw [show (4 : Int32) = nI 4 from rfl, pk_mul, nI_add]
  refine ⟨pk_in z 2 hz, nm_r (e' := nI n) (by rw [nI_clamp (by omega)]; exact h) ?_⟩
  rw [e, nI_clamp (show z * 4 + n < 2 ^ 31 by omega), nI_clamp (show z < 2 ^ 31 by omega), nI_1]
  exact pk_lt n 4 (fun _ => ⟨pk_in (z * 4 + n) 8 (by omega), nm_e ⟨pk_in z 2 hz, nm_e H⟩⟩) (fun z => absurd z (by omega))
theorem wf_inT {post : Int32 → St1 → Prop} {v : Int32} {n : Nat} (hn : n < 4) (h : a10 0 = nI n)
    (H : post (nI (n + 1)) (ty, ro, co, a1, a2, a3, a4, a5, a6, a7, a8, upd a9 n v, upd a10 0 (nI (n + 1)), a11, a12, a13)) : wpX_input post (ty, ro, co, a1, a2, a3, a4, a5, a6, a7, a8, a9, a10, a11, a12, a13) 1 v :=
  br_f (by decide) (wf_in9 (z := 0) (by omega) hn h (by rw [Nat.zero_mul, Nat.zero_add]; exact H))
theorem wf_inF {post : Int32 → St1 → Prop} {v : Int32} {n : Nat} (hn : n < 4) (h : a10 1 = nI n)
    (H : post (nI (n + 1)) (ty, ro, co, a1, a2, a3, a4, a5, a6, a7, a8, upd a9 (4 + n) v, upd a10 1 (nI (n + 1)), a11, a12, a13)) : wpX_input post (ty, ro, co, a1, a2, a3, a4, a5, a6, a7, a8, a9, a10, a11, a12, a13) 0 v :=
  br_t rfl (wf_in9 (z := 1) (by omega) hn h H)
theorem wf_entry {post : Int32 → Prop} {i j R C : Nat} (hR : ro = nI R) (hC : co = nI C) (hi : i < R) (hj : j < C) (hR4 : R ≤ 4) (hC4 : C ≤ 4) (h : post (a11 (i * 4 + j))) : wpX_entry post (ty, ro, co, a1, a2, a3, a4, a5, a6, a7, a8, a9, a10, a11, a12, a13) (nI i) (nI j) := by
  have e : nI i * 4 + nI j = nI (i * 4 + j) := by
    rw [show (4 : Int32) = nI 4 from rfl, pk_mul, nI_add]
  subst hR hC
  refine pk_lt i 0 (fun z => absurd z (by omega)) (fun _ => pk_le R i (fun z => absurd z (by omega)) (fun _ => pk_lt j 0 (fun z => absurd z (by omega)) (fun _ => pk_lt j C (fun _ => ?_) (fun z => absurd z (by omega)))))
  rw [e, nI_clamp (by omega)]
  exact ⟨pk_in (i * 4 + j) 16 (by omega), h⟩
theorem wf_entry0 {post : Int32 → Prop} {i j R C : Nat} (hR : ro = nI R) (hC : co = nI C) (hi : i < R) (hj : C ≤ j) (hj4 : j ≤ 4) (hR4 : R ≤ 4) (h : post 0) : wpX_entry post (ty, ro, co, a1, a2, a3, a4, a5, a6, a7, a8, a9, a10, a11, a12, a13) (nI i) (nI j) := by
  subst hR hC
  exact pk_lt i 0 (fun z => absurd z (by omega)) (fun _ => pk_le R i (fun z => absurd z (by omega)) (fun _ => pk_lt j 0 (fun z => absurd z (by omega)) (fun _ => pk_lt j C (fun z => absurd z (by omega)) (fun _ => h))))
/-! above: closed upwards -/
theorem wf_above {f p : Nat → Nat} (ho : wf_ord a4 a6 f p) (set : Int32) :
    ∃ R, ((∀ e, bt set e = true → bt R e = true) ∧ (∀ c, c < 16 → ∀ e, bt (a4 c) e = true → bt R e = true → bt R c = true)) ∧ ∀ post : Int32 → Prop, post R → wpX_above post (ty, ro, co, a1, a2, a3, a4, a5, a6, a7, a8, a9, a10, a11, a12, a13) set := by
  obtain ⟨o1, o2, o3⟩ := ho
  refine wf_lp (P := Int32 → Prop) (σ := Int32) (R := Int32) (fun post r => post r) (fun post n i s => wX_above_4 post ty ro co a1 a2 a3 a4 a5 a6 a7 a8 a9 a10 a11 a12 a13 n s (nI i))
    (fun i s => (∀ e, bt set e = true → bt s e = true) ∧ (∀ c, c < 16 → p c < i → ∀ e, bt (a4 c) e = true → bt s e = true → bt s c = true)) _ 16 ?_ ?_ 16 0 set rfl ⟨fun e h => h, fun c _ h => absurd h (by omega)⟩
  · intro s h
    exact ⟨s, ⟨h.1, fun c hc => h.2 c hc (o2 c hc).1⟩, fun post hp => ⟨1, pk_le 16 16 (fun _ => hp) (fun z => absurd z (by omega))⟩⟩
  · intro i s hi h
    obtain ⟨hf, ho, hp⟩ := o1 i hi
    have old : ∀ c, c < 16 → p c < i + 1 → ¬ c = f i → p c < i := by
      intro c hc h1 h2
      have h3 : p c ≠ i := fun q => h2 (by rw [← q]; exact ((o2 c hc).2).symm)
      omega
    by_cases hz : (a4 (f i)) &&& s = 0
    · refine ⟨s, ⟨h.1, fun c hc hci e h1 h2 => ?_⟩, fun post n hw => ?_⟩
      · by_cases hcc : c = f i
        · rw [hcc] at h1
          exact absurd ⟨h1, h2⟩ (wf_and0.mp hz e)
        · exact h.2 c hc (old c hc hci hcc) e h1 h2
      · refine pk_le 16 i (fun z => absurd z (by omega)) (fun _ => ⟨pk_in i 16 hi, nm_r (e' := nI (f i)) (by rw [nI_clamp (by omega)]; exact ho) ⟨pk_in (f i) 16 hf, ?_⟩⟩)
        rw [nI_clamp (show f i < 2 ^ 31 by omega)]
        exact br_t hz (nm_r (nI_1 i) hw)
    · refine ⟨s ||| ((1 : Int32) <<< (nI (f i) &&& 31)), ⟨fun e he => wf_or.mpr (Or.inl (h.1 e he)), fun c hc hci e h1 h2 => ?_⟩, fun post n hw => ?_⟩
      · have he := wf_lt h1
        rw [wf_or1 hf (by omega)]
        by_cases hcc : c = f i
        · exact Or.inr hcc
        · rw [wf_or1 hf he] at h2
          rcases h2 with h2 | h2
          · exact Or.inl (h.2 c hc (old c hc hci hcc) e h1 h2)
          · have h3 := (o3 c hc e h1).2
            have h4 := old c hc hci hcc
            rw [h2, hp] at h3
            omega
      · refine pk_le 16 i (fun z => absurd z (by omega)) (fun _ => ⟨pk_in i 16 hi, nm_r (e' := nI (f i)) (by rw [nI_clamp (by omega)]; exact ho) ⟨pk_in (f i) 16 hf, ?_⟩⟩)
        rw [nI_clamp (show f i < 2 ^ 31 by omega)]
        exact br_f hz (nm_e (nm_r (nI_1 i) hw))
/-! below: closed downwards -/
def wf_dn (t : Nat) : Int32 := nI (16 - t) + (-1)
theorem wf_dn_s {t : Nat} (h : t < 16) : wf_dn t = nI (15 - t) := by
  unfold wf_dn
  rw [show 16 - t = (15 - t) + 1 by omega]
  exact pk_m1 _
theorem wf_dn_1 {t : Nat} (h : t < 16) : nI (15 - t) + (-1) = wf_dn (t + 1) := by
  unfold wf_dn
  rw [show 16 - (t + 1) = 15 - t by omega]
theorem wf_below {f p : Nat → Nat} (ho : wf_ord a4 a6 f p) {out : Nat} (hout : out < 16) :
    ∃ R, (bt R out = true ∧ (∀ c, c < 16 → bt R c = true → ∀ e, bt (a4 c) e = true → bt R e = true)) ∧ ∀ post : Int32 → Prop, post R → wpX_below post (ty, ro, co, a1, a2, a3, a4, a5, a6, a7, a8, a9, a10, a11, a12, a13) (nI out) := by
  obtain ⟨o1, o2, o3⟩ := ho
  have key : ∃ R, (bt R out = true ∧ (∀ c, c < 16 → bt R c = true → ∀ e, bt (a4 c) e = true → bt R e = true)) ∧ ∀ post : Int32 → Prop, post R → ∃ n, wX_below_7 post ty ro co a1 a2 a3 a4 a5 a6 a7 a8 a9 a10 a11 a12 a13 n ((1 : Int32) <<< (nI out &&& 31)) (wf_dn 0) := by
    refine wf_lp (P := Int32 → Prop) (σ := Int32) (R := Int32) (fun post r => post r) (fun post n t s => wX_below_7 post ty ro co a1 a2 a3 a4 a5 a6 a7 a8 a9 a10 a11 a12 a13 n s (wf_dn t))
      (fun t s => bt s out = true ∧ (∀ c, c < 16 → 15 < p c + t → bt s c = true → ∀ e, bt (a4 c) e = true → bt s e = true)) _ 16 ?_ ?_ 16 0 _ rfl ⟨?_, ?_⟩
    · intro s h
      refine ⟨s, ⟨h.1, fun c hc => h.2 c hc (by omega)⟩, fun post hp => ⟨1, br_t (by decide) hp⟩⟩
    · intro t s ht h
      obtain ⟨hf, ho, hp⟩ := o1 (15 - t) (by omega)
      have old : ∀ c, c < 16 → 15 < p c + (t + 1) → ¬ c = f (15 - t) → 15 < p c + t := by
        intro c hc h1 h2
        have h3 : p c ≠ 15 - t := fun q => h2 (by rw [← q]; exact ((o2 c hc).2).symm)
        omega
      by_cases hb : bt s (f (15 - t)) = true
      · refine ⟨s ||| a4 (f (15 - t)), ⟨wf_or.mpr (Or.inl h.1), fun c hc hct h1 e h2 => ?_⟩, fun post n hw => ?_⟩
        · have h3 : bt s c = true := by
            rcases wf_or.mp h1 with h3 | h3
            · exact h3
            · have h4 := (o3 _ hf c h3).2
              rw [hp] at h4
              omega
          by_cases hcc : c = f (15 - t)
          · rw [hcc] at h2
            exact wf_or.mpr (Or.inr h2)
          · exact wf_or.mpr (Or.inl (h.2 c hc (old c hc hct hcc) h3 e h2))
        · show wX_below_7 post ty ro co a1 a2 a3 a4 a5 a6 a7 a8 a9 a10 a11 a12 a13 (n + 1) s (wf_dn t)
          rw [wf_dn_s ht]
          refine pk_lt (15 - t) 0 (fun z => absurd z (by omega)) (fun _ => ⟨pk_in (15 - t) 16 (by omega), nm_r (e' := nI (f (15 - t))) (by rw [nI_clamp (by omega)]; exact ho) ?_⟩)
          exact br_t ((wf_t1 hf).mpr hb) ⟨pk_in (f (15 - t)) 16 hf, nm_r (by rw [nI_clamp (by omega)]) (nm_r (wf_dn_1 ht) hw)⟩
      · refine ⟨s, ⟨h.1, fun c hc hct h1 e h2 => ?_⟩, fun post n hw => ?_⟩
        · by_cases hcc : c = f (15 - t)
          · rw [hcc] at h1
            exact absurd h1 hb
          · exact h.2 c hc (old c hc hct hcc) h1 e h2
        · show wX_below_7 post ty ro co a1 a2 a3 a4 a5 a6 a7 a8 a9 a10 a11 a12 a13 (n + 1) s (wf_dn t)
          rw [wf_dn_s ht]
          refine pk_lt (15 - t) 0 (fun z => absurd z (by omega)) (fun _ => ⟨pk_in (15 - t) 16 (by omega), nm_r (e' := nI (f (15 - t))) (by rw [nI_clamp (by omega)]; exact ho) ?_⟩)
          exact br_f (fun z => hb ((wf_t1 hf).mp z)) (nm_r (wf_dn_1 ht) hw)
    · rw [wf_one out hout out (by omega)]
      exact decide_eq_true rfl
    · intro c hc h1
      exact absurd h1 (by have := (o2 c hc).1; omega)
  obtain ⟨R, hR, h⟩ := key
  exact ⟨R, hR, fun post hp => nm_e (h post hp)⟩
/-! the making -/
theorem wf_init : ∃ o : Nat → Int32, (∀ j, j < 16 → o j = nI j) ∧ ∀ post : St1 → Prop, post (0, 0, 0, (fun _ => 0), (fun _ => 0), (fun _ => 0), (fun _ => 0), (fun _ => 0), o, (fun _ => 0), (fun _ => 0), (fun _ => 0), (fun _ => 0), (fun _ => 0), (fun _ => 0), (fun _ => 0)) → wpX_init post 13 387 (0, 0, 0) := by
  have key : ∃ o : Nat → Int32, (∀ j, j < 16 → o j = nI j) ∧ ∀ post : St1 → Prop, post (0, 0, 0, (fun _ => 0), (fun _ => 0), (fun _ => 0), (fun _ => 0), (fun _ => 0), o, (fun _ => 0), (fun _ => 0), (fun _ => 0), (fun _ => 0), (fun _ => 0), (fun _ => 0), (fun _ => 0)) → ∃ n, wX_init_111 post 13 387 13 387 0 0 0 n (nI 0) (fun _ => 0) (fun _ => 0) (fun _ => 0) (fun _ => 0) (fun _ => 0) (fun _ => 0) (fun _ => 0) (fun _ => 0) (fun _ => 0) (fun _ => 0) (fun _ => 0) (fun _ => 0) (fun _ => 0) := by
    refine wf_lp (P := St1 → Prop) (σ := Nat → Int32) (R := Nat → Int32) (fun post o => post (0, 0, 0, (fun _ => 0), (fun _ => 0), (fun _ => 0), (fun _ => 0), (fun _ => 0), o, (fun _ => 0), (fun _ => 0), (fun _ => 0), (fun _ => 0), (fun _ => 0), (fun _ => 0), (fun _ => 0)))
      (fun post n i o => wX_init_111 post 13 387 13 387 0 0 0 n (nI i) (fun _ => 0) (fun _ => 0) (fun _ => 0) (fun _ => 0) (fun _ => 0) o (fun _ => 0) (fun _ => 0) (fun _ => 0) (fun _ => 0) (fun _ => 0) (fun _ => 0) (fun _ => 0))
      (fun i o => ∀ j, j < i → o j = nI j) _ 16 ?_ ?_ 16 0 (fun _ => 0) rfl (fun j h => absurd h (by omega))
    · intro o h
      exact ⟨o, h, fun post hp => ⟨1, pk_le 16 16 (fun _ => hp) (fun z => absurd z (by omega))⟩⟩
    · intro i o hi h
      refine ⟨upd o i (nI i), fun j hj => ?_, fun post n hw => ?_⟩
      · by_cases e : j = i
        · rw [e, pk_us]
        · rw [pk_un e]
          exact h j (by omega)
      · exact pk_le 16 i (fun z => absurd z (by omega)) (fun _ => ⟨pk_in i 16 hi, nm_r (by rw [nI_clamp (by omega)]) (nm_r (nI_1 i) hw)⟩)
  obtain ⟨o, h1, h2⟩ := key
  refine ⟨o, h1, fun post hp => ?_⟩
  refine ⟨by decide, by decide, by decide, by decide, by decide, by decide, by decide, by decide, by decide, by decide, by decide, by decide, by decide, by decide, by decide, by decide, by decide, by decide, by decide, by decide, by decide, by decide, by decide, by decide, by decide, by decide, ?_⟩
  exact h2 post hp
/-! same -/
theorem wf_same {post : Int32 → Prop} {dty dro dco : Int32} {d1 d2 d3 d4 d5 d6 d7 d8 d9 d10 d11 d12 d13 : Nat → Int32} (h1 : ∀ c, c < 16 → a1 c = d1 c) (h5 : ∀ c, c < 16 → a5 c = d5 c) (H : post 1) :
    wpL_same post (ty, ro, co, a1, a2, a3, a4, a5, a6, a7, a8, a9, a10, a11, a12, a13, dty, dro, dco, d1, d2, d3, d4, d5, d6, d7, d8, d9, d10, d11, d12, d13) := by
  show ∃ n, wL_same_2 post ty ro co a1 a2 a3 a4 a5 a6 a7 a8 a9 a10 a11 a12 a13 dty dro dco d1 d2 d3 d4 d5 d6 d7 d8 d9 d10 d11 d12 d13 n (nI 0)
  refine pk_loop (σ := Unit) (fun n i _ => wL_same_2 post ty ro co a1 a2 a3 a4 a5 a6 a7 a8 a9 a10 a11 a12 a13 dty dro dco d1 d2 d3 d4 d5 d6 d7 d8 d9 d10 d11 d12 d13 n (nI i)) (fun _ _ => True) 16 0 () (by omega) trivial ?_ ?_
  · exact fun n _ _ => pk_le 16 16 (fun _ => H) (fun z => absurd z (by omega))
  · intro n i _ hi _ hw
    refine pk_le 16 i (fun z => absurd z (by omega)) (fun _ => wf_value hi (wf_value hi (br_t (h5 i hi) (wf_isF hi (wf_isF hi (br_t ?_ (nm_r (nI_1 i) (hw () trivial))))))))
    rw [h1 i hi]
end
end
section
/-! ===== walks: a formula's value ===== -/
section
variable {ty ro co : Int32} {a1 a2 a3 a4 a5 a6 a7 a8 a9 a10 a11 a12 a13 : Nat → Int32}
theorem wf_ix (c i : Nat) : nI c * 8 + nI i = nI (c * 8 + i) := by
  rw [show (8 : Int32) = nI 8 from rfl, pk_mul, nI_add]
theorem wf_s22 : (nI 2 - 2 : Int32) = nI 0 := by decide
theorem wf_s21 : (nI 2 - 1 : Int32) = nI 1 := by decide
theorem wf_s33 : (nI 3 - 3 : Int32) = nI 0 := by decide
theorem wf_s32 : (nI 3 - 2 : Int32) = nI 1 := by decide
theorem wf_s31 : (nI 3 - 1 : Int32) = nI 2 := by decide
theorem wf_c0 : (nI 0).toNatClampNeg = 0 := nI_clamp (by omega)
theorem wf_c1 : (nI 1).toNatClampNeg = 1 := nI_clamp (by omega)
theorem wf_c2 : (nI 2).toNatClampNeg = 2 := nI_clamp (by omega)
theorem wf_app2 {post : Int32 → St1 → Prop} {k : Int32} (hk : k = 2 ∨ k = 3 ∨ k = 4 ∨ k = 5)
    (H : post (nI 1) (ty, ro, co, a1, a2, a3, a4, a5, a6, a7, a8, a9, a10, a11, a12, upd a13 0 (wf_op k (a13 0) (a13 1)))) : wpX_apply post (ty, ro, co, a1, a2, a3, a4, a5, a6, a7, a8, a9, a10, a11, a12, a13) k (nI 2) := by
  unfold wpX_apply
  dsimp only
  rw [wf_s22, wf_s21, wf_c0, wf_c1]
  unfold wf_op at H
  have hv0 : vp_in (nI 0) 9 := pk_in 0 9 (by omega)
  have hv1 : vp_in (nI 1) 9 := pk_in 1 9 (by omega)
  rcases hk with h | h | h | h
  · rw [h, if_pos rfl] at H
    rw [h]
    exact br_f (by decide) (br_t (by decide) ⟨hv0, nm_e ⟨hv1, nm_e (br_f (by decide) (br_f (by decide) (br_t rfl ⟨hv0, nm_e H⟩)))⟩⟩)
  · rw [h, if_neg (by decide), if_pos rfl] at H
    rw [h]
    exact br_f (by decide) (br_t (by decide) ⟨hv0, nm_e ⟨hv1, nm_e (br_f (by decide) (br_f (by decide) (br_f (by decide) (br_t rfl ⟨hv0, nm_e H⟩))))⟩⟩)
  · rw [h, if_neg (by decide), if_neg (by decide), if_pos rfl] at H
    rw [h]
    exact br_f (by decide) (br_t (by decide) ⟨hv0, nm_e ⟨hv1, nm_e (br_f (by decide) (br_f (by decide) (br_f (by decide) (br_f (by decide) (br_t rfl ⟨hv0, nm_e H⟩)))))⟩⟩)
  · rw [h, if_neg (by decide), if_neg (by decide), if_neg (by decide)] at H
    rw [h]
    refine br_f (by decide) (br_t (by decide) ⟨hv0, nm_e ⟨hv1, nm_e (br_f (by decide) (br_f (by decide) (br_f (by decide) (br_f (by decide) (br_f (by decide) (br_t rfl ?_))))))⟩⟩)
    by_cases hz : a13 1 ≤ a13 0
    · rw [if_pos hz] at H
      exact br_t hz ⟨hv0, nm_e H⟩
    · rw [if_neg hz] at H
      exact br_f hz ⟨hv0, nm_e H⟩
theorem wf_app3 {post : Int32 → St1 → Prop} {k : Int32} (hk : k = 7)
    (H : post (nI 1) (ty, ro, co, a1, a2, a3, a4, a5, a6, a7, a8, a9, a10, a11, a12, upd a13 0 (if a13 0 ≤ 0 then a13 2 else a13 1))) : wpX_apply post (ty, ro, co, a1, a2, a3, a4, a5, a6, a7, a8, a9, a10, a11, a12, a13) k (nI 3) := by
  unfold wpX_apply
  dsimp only
  rw [wf_s33, wf_s32, wf_s31, wf_c0, wf_c1, wf_c2]
  have hv0 : vp_in (nI 0) 9 := pk_in 0 9 (by omega)
  have hv1 : vp_in (nI 1) 9 := pk_in 1 9 (by omega)
  have hv2 : vp_in (nI 2) 9 := pk_in 2 9 (by omega)
  refine br_t hk (br_t (by decide) ⟨hv0, ?_⟩)
  by_cases hz : a13 0 ≤ 0
  · rw [if_pos hz] at H
    exact br_t hz ⟨hv2, hv0, nm_e H⟩
  · rw [if_neg hz] at H
    exact br_f hz ⟨hv1, hv0, nm_e H⟩
theorem wf_wop {post : Int32 → St1 → Prop} {m : Int32} {c i t n L : Nat} (hc : c < 16) (ht : t < 9) (hl : a1 c = nI L) (hL : i < L) (hL8 : L ≤ 8) (ho : wf_opd (a2 (c * 8 + i)) (a3 (c * 8 + i)) m)
    (H : wX_work_4 post (nI c) n (nI (t + 1)) (nI (i + 1)) ty ro co a1 a2 a3 a4 a5 a6 a7 a8 a9 a10 a11 a12 (upd a13 t (wf_tv (a2 (c * 8 + i)) (a3 (c * 8 + i)) a5))) : wX_work_4 post (nI c) (n + 1) (nI t) (nI i) ty ro co a1 a2 a3 a4 a5 a6 a7 a8 a9 a10 a11 a12 a13 := by
  refine ⟨pk_in c 16 hc, ?_⟩
  rw [nI_clamp (show c < 2 ^ 31 by omega), hl, wf_ix, nI_clamp (show c * 8 + i < 2 ^ 31 by omega), nI_clamp (show t < 2 ^ 31 by omega)]
  refine pk_le L i (fun z => absurd z (by omega)) (fun _ => ⟨pk_in (c * 8 + i) 128 (by omega), nm_e ⟨pk_in (c * 8 + i) 128 (by omega), nm_e ?_⟩⟩)
  unfold wf_tv at H
  rcases ho with h | ⟨h, e, he, ha, hb⟩
  · rw [if_pos h] at H
    exact br_t h ⟨pk_in t 9 ht, nm_e (nm_r (nI_1 t) (nm_r (nI_1 i) H))⟩
  · have hk : ¬ a2 (c * 8 + i) = 0 := by
      rw [h]
      decide
    rw [if_neg hk] at H
    exact br_f hk (br_t h ⟨pk_in e 16 he ha, pk_in t 9 ht, nm_e (nm_r (nI_1 t) (nm_r (nI_1 i) H))⟩)
theorem wf_wend {post : Int32 → St1 → Prop} {x : Int32} {c n L : Nat} (hc : c < 16) (hl : a1 c = nI L) (hL8 : L ≤ 8) (H : post (a13 0) (ty, ro, co, a1, a2, a3, a4, a5, a6, a7, a8, a9, a10, a11, a12, a13)) : wX_work_4 post (nI c) (n + 1) x (nI L) ty ro co a1 a2 a3 a4 a5 a6 a7 a8 a9 a10 a11 a12 a13 := by
  refine ⟨pk_in c 16 hc, ?_⟩
  rw [nI_clamp (show c < 2 ^ 31 by omega), hl]
  exact pk_le L L (fun _ => H) (fun z => absurd z (by omega))
theorem wf_work {c : Nat} (hc : c < 16) (hs : wf_shp (a1 c) (a4 c) (wf_bl a2 c) (wf_bl a3 c)) (h0 : ¬ a1 c = 0) :
    ∃ st, ∀ post : Int32 → St1 → Prop, post (wf_E a1 a2 a3 c a5) (ty, ro, co, a1, a2, a3, a4, a5, a6, a7, a8, a9, a10, a11, a12, st) → wpX_work post (ty, ro, co, a1, a2, a3, a4, a5, a6, a7, a8, a9, a10, a11, a12, a13) (nI c) := by
  rcases hs with h | ⟨h, h1, h2, h3⟩ | ⟨h, h1, h2, h3, h4⟩
  · exact absurd h h0
  · refine ⟨upd (upd (upd a13 0 (wf_tv (a2 (c * 8 + 0)) (a3 (c * 8 + 0)) a5)) 1 (wf_tv (a2 (c * 8 + 1)) (a3 (c * 8 + 1)) a5)) 0 (wf_op (a2 (c * 8 + 2)) (wf_tv (a2 (c * 8 + 0)) (a3 (c * 8 + 0)) a5) (wf_tv (a2 (c * 8 + 1)) (a3 (c * 8 + 1)) a5)), fun post hp => ⟨4, ?_⟩⟩
    refine wf_wop (i := 0) (t := 0) (L := 3) hc (by omega) h (by omega) (by omega) h1 ?_
    refine wf_wop (i := 1) (t := 1) (L := 3) hc (by omega) h (by omega) (by omega) h2 ?_
    have h3' : a2 (c * 8 + 2) = 2 ∨ a2 (c * 8 + 2) = 3 ∨ a2 (c * 8 + 2) = 4 ∨ a2 (c * 8 + 2) = 5 := h3
    have k0 : ¬ a2 (c * 8 + 2) = 0 := by
      rcases h3' with q | q | q | q <;> (rw [q]; decide)
    have k1 : ¬ a2 (c * 8 + 2) = 1 := by
      rcases h3' with q | q | q | q <;> (rw [q]; decide)
    refine ⟨pk_in c 16 hc, ?_⟩
    rw [nI_clamp (show c < 2 ^ 31 by omega), h, wf_ix, nI_clamp (show c * 8 + (1 + 1) < 2 ^ 31 by omega)]
    refine pk_le 3 2 (fun z => absurd z (by omega)) (fun _ => ⟨pk_in (c * 8 + 2) 128 (by omega), nm_e ⟨pk_in (c * 8 + 2) 128 (by omega), nm_e (br_f k0 (br_f k1 (wf_app2 h3' (nm_r (nI_1 2) (wf_wend (L := 3) hc h (by omega) ?_)))))⟩⟩)
    have e : wf_E a1 a2 a3 c a5 = wf_op (a2 (c * 8 + 2)) (wf_tv (a2 (c * 8 + 0)) (a3 (c * 8 + 0)) a5) (wf_tv (a2 (c * 8 + 1)) (a3 (c * 8 + 1)) a5) := if_pos h
    rw [e] at hp
    exact hp
  · have h3n : ¬ a1 c = 3 := by
      rw [h]
      decide
    refine ⟨upd (upd (upd (upd a13 0 (wf_tv (a2 (c * 8 + 0)) (a3 (c * 8 + 0)) a5)) 1 (wf_tv (a2 (c * 8 + 1)) (a3 (c * 8 + 1)) a5)) 2 (wf_tv (a2 (c * 8 + 2)) (a3 (c * 8 + 2)) a5)) 0 (if wf_tv (a2 (c * 8 + 0)) (a3 (c * 8 + 0)) a5 ≤ 0 then wf_tv (a2 (c * 8 + 2)) (a3 (c * 8 + 2)) a5 else wf_tv (a2 (c * 8 + 1)) (a3 (c * 8 + 1)) a5), fun post hp => ⟨5, ?_⟩⟩
    refine wf_wop (i := 0) (t := 0) (L := 4) hc (by omega) h (by omega) (by omega) h1 ?_
    refine wf_wop (i := 1) (t := 1) (L := 4) hc (by omega) h (by omega) (by omega) h2 ?_
    refine wf_wop (i := 2) (t := 2) (L := 4) hc (by omega) h (by omega) (by omega) h3 ?_
    have h4' : a2 (c * 8 + 3) = 7 := h4
    have k0 : ¬ a2 (c * 8 + 3) = 0 := by
      rw [h4']
      decide
    have k1 : ¬ a2 (c * 8 + 3) = 1 := by
      rw [h4']
      decide
    refine ⟨pk_in c 16 hc, ?_⟩
    rw [nI_clamp (show c < 2 ^ 31 by omega), h, wf_ix, nI_clamp (show c * 8 + (2 + 1) < 2 ^ 31 by omega)]
    refine pk_le 4 3 (fun z => absurd z (by omega)) (fun _ => ⟨pk_in (c * 8 + 3) 128 (by omega), nm_e ⟨pk_in (c * 8 + 3) 128 (by omega), nm_e (br_f k0 (br_f k1 (wf_app3 h4' (nm_r (nI_1 3) (wf_wend (L := 4) hc h (by omega) ?_)))))⟩⟩)
    have e : wf_E a1 a2 a3 c a5 = if wf_tv (a2 (c * 8 + 0)) (a3 (c * 8 + 0)) a5 ≤ 0 then wf_tv (a2 (c * 8 + 2)) (a3 (c * 8 + 2)) a5 else wf_tv (a2 (c * 8 + 1)) (a3 (c * 8 + 1)) a5 := if_neg h3n
    rw [e] at hp
    exact hp
end
end
section
/-! ===== walks: spread ===== -/
section
variable {ty ro co : Int32} {a1 a2 a3 a4 a5 a6 a7 a8 a9 a10 a11 a12 a13 : Nat → Int32}
theorem wf_sA {post : Int32 → St1 → Prop} {W m cn : Int32} {n i c : Nat} (hi : i < 16) (hc : c < 16) (ho : a6 i = nI c) (hW : ¬ bt W c = true)
    (H : wX_spread_8 post W n m cn (nI (i + 1)) ty ro co a1 a2 a3 a4 a5 a6 a7 a8 a9 a10 a11 a12 a13) : wX_spread_8 post W (n + 1) m cn (nI i) ty ro co a1 a2 a3 a4 a5 a6 a7 a8 a9 a10 a11 a12 a13 :=
  pk_le 16 i (fun z => absurd z (by omega)) (fun _ => ⟨pk_in i 16 hi, nm_r (e' := nI c) (by rw [nI_clamp (by omega)]; exact ho) (br_f (fun z => hW ((wf_t1 hc).mp z)) (nm_r (nI_1 i) H))⟩)
theorem wf_sB {post : Int32 → St1 → Prop} {W m cn : Int32} {n i c : Nat} (hi : i < 16) (hc : c < 16) (ho : a6 i = nI c) (hW : bt W c = true) (hz : a4 c &&& m = 0)
    (H : wX_spread_8 post W n m cn (nI (i + 1)) ty ro co a1 a2 a3 a4 a5 a6 a7 a8 a9 a10 a11 a12 a13) : wX_spread_8 post W (n + 1) m cn (nI i) ty ro co a1 a2 a3 a4 a5 a6 a7 a8 a9 a10 a11 a12 a13 := by
  refine pk_le 16 i (fun z => absurd z (by omega)) (fun _ => ⟨pk_in i 16 hi, nm_r (e' := nI c) (by rw [nI_clamp (by omega)]; exact ho) (br_t ((wf_t1 hc).mpr hW) ⟨pk_in c 16 hc, ?_⟩)⟩)
  rw [nI_clamp (show c < 2 ^ 31 by omega)]
  exact br_t hz (nm_r (nI_1 i) H)
theorem wf_sC {post : Int32 → St1 → Prop} {W m cn : Int32} {n i c : Nat} (hi : i < 16) (hc : c < 16) (ho : a6 i = nI c) (hW : bt W c = true) (hz : ¬ a4 c &&& m = 0) (hl : a1 c = 0)
    (H : wX_spread_8 post W n m cn (nI (i + 1)) ty ro co a1 a2 a3 a4 a5 a6 a7 a8 a9 a10 a11 a12 a13) : wX_spread_8 post W (n + 1) m cn (nI i) ty ro co a1 a2 a3 a4 a5 a6 a7 a8 a9 a10 a11 a12 a13 := by
  refine pk_le 16 i (fun z => absurd z (by omega)) (fun _ => ⟨pk_in i 16 hi, nm_r (e' := nI c) (by rw [nI_clamp (by omega)]; exact ho) (br_t ((wf_t1 hc).mpr hW) ⟨pk_in c 16 hc, ?_⟩)⟩)
  rw [nI_clamp (show c < 2 ^ 31 by omega)]
  exact br_f hz ⟨pk_in c 16 hc, br_t (by rw [hl]; decide) (nm_r (nI_1 i) H)⟩
theorem wf_sD {W m cn : Int32} {i c : Nat} (hi : i < 16) (hc : c < 16) (ho : a6 i = nI c) (hW : bt W c = true) (hz : ¬ a4 c &&& m = 0) (hs : wf_shp (a1 c) (a4 c) (wf_bl a2 c) (wf_bl a3 c)) (h0 : ¬ a1 c = 0) :
    ∃ st, (wf_E a1 a2 a3 c a5 = a5 c → ∀ (post : Int32 → St1 → Prop) n, wX_spread_8 post W n m cn (nI (i + 1)) ty ro co a1 a2 a3 a4 a5 a6 a7 a8 a9 a10 a11 a12 st → wX_spread_8 post W (n + 1) m cn (nI i) ty ro co a1 a2 a3 a4 a5 a6 a7 a8 a9 a10 a11 a12 a13) ∧
      (¬ wf_E a1 a2 a3 c a5 = a5 c → ∀ (post : Int32 → St1 → Prop) n, wX_spread_8 post W n (m ||| ((1 : Int32) <<< (nI c &&& 31))) (cn + 1) (nI (i + 1)) ty ro co a1 a2 a3 a4 (upd a5 c (wf_E a1 a2 a3 c a5)) a6 a7 a8 a9 a10 a11 a12 st → wX_spread_8 post W (n + 1) m cn (nI i) ty ro co a1 a2 a3 a4 a5 a6 a7 a8 a9 a10 a11 a12 a13) := by
  obtain ⟨st, hst⟩ := wf_work (ty := ty) (ro := ro) (co := co) (a5 := a5) (a6 := a6) (a7 := a7) (a8 := a8) (a9 := a9) (a10 := a10) (a11 := a11) (a12 := a12) (a13 := a13) hc hs h0
  refine ⟨st, fun he post n H => ?_, fun he post n H => ?_⟩
  · refine pk_le 16 i (fun z => absurd z (by omega)) (fun _ => ⟨pk_in i 16 hi, nm_r (e' := nI c) (by rw [nI_clamp (by omega)]; exact ho) (br_t ((wf_t1 hc).mpr hW) ⟨pk_in c 16 hc, ?_⟩)⟩)
    rw [nI_clamp (show c < 2 ^ 31 by omega)]
    refine br_f hz ⟨pk_in c 16 hc, br_f (wf_len hs h0) (hst _ ?_)⟩
    exact ⟨pk_in c 16 hc, br_t he (nm_r (nI_1 i) H)⟩
  · refine pk_le 16 i (fun z => absurd z (by omega)) (fun _ => ⟨pk_in i 16 hi, nm_r (e' := nI c) (by rw [nI_clamp (by omega)]; exact ho) (br_t ((wf_t1 hc).mpr hW) ⟨pk_in c 16 hc, ?_⟩)⟩)
    rw [nI_clamp (show c < 2 ^ 31 by omega)]
    refine br_f hz ⟨pk_in c 16 hc, br_f (wf_len hs h0) (hst _ ?_)⟩
    exact ⟨pk_in c 16 hc, br_f he ⟨pk_in c 16 hc, nm_e (nm_e (nm_e (nm_r (nI_1 i) H)))⟩⟩
theorem wf_spread {f p : Nat → Nat} (ho : wf_ord a4 a6 f p) (hs : wf_shs a1 a2 a3 a4) (C0 W : Int32)
    (hC : ∀ c, c < 16 → bt W c = true → ¬ a1 c = 0 → (∀ e, bt (a4 c) e = true → ¬ bt C0 e = true) → a5 c = wf_E a1 a2 a3 c a5) :
    ∃ (r : Int32) (w st : Nat → Int32), ((∀ c, c < 16 → (¬ bt W c = true ∨ a1 c = 0) → w c = a5 c) ∧ (∀ c, c < 16 → bt W c = true → ¬ a1 c = 0 → w c = wf_E a1 a2 a3 c w)) ∧
      ∀ post : Int32 → St1 → Prop, post r (ty, ro, co, a1, a2, a3, a4, w, a6, a7, a8, a9, a10, a11, a12, st) → wpX_spread post (ty, ro, co, a1, a2, a3, a4, a5, a6, a7, a8, a9, a10, a11, a12, a13) C0 W := by
  obtain ⟨o1, o2, o3⟩ := ho
  refine Exists.elim (wf_lp (P := Int32 → St1 → Prop) (σ := Int32 × Int32 × (Nat → Int32) × (Nat → Int32)) (R := Int32 × (Nat → Int32) × (Nat → Int32)) (fun post r => post r.1 (ty, ro, co, a1, a2, a3, a4, r.2.1, a6, a7, a8, a9, a10, a11, a12, r.2.2))
    (fun post n i s => wX_spread_8 post W n s.1 s.2.1 (nI i) ty ro co a1 a2 a3 a4 s.2.2.1 a6 a7 a8 a9 a10 a11 a12 s.2.2.2)
    (fun i s => (∀ c, c < 16 → ¬ bt s.1 c = true → s.2.2.1 c = a5 c) ∧ (∀ e, bt C0 e = true → bt s.1 e = true) ∧ (∀ c, c < 16 → i ≤ p c → s.2.2.1 c = a5 c) ∧
      (∀ c, c < 16 → (¬ bt W c = true ∨ a1 c = 0) → s.2.2.1 c = a5 c) ∧ (∀ c, c < 16 → p c < i → bt W c = true → ¬ a1 c = 0 → s.2.2.1 c = wf_E a1 a2 a3 c s.2.2.1))
    (fun r => (∀ c, c < 16 → (¬ bt W c = true ∨ a1 c = 0) → r.2.1 c = a5 c) ∧ (∀ c, c < 16 → bt W c = true → ¬ a1 c = 0 → r.2.1 c = wf_E a1 a2 a3 c r.2.1)) 16 ?_ ?_ 16 0 (C0, 0, a5, a13) rfl
    ⟨fun _ _ _ => rfl, fun e h => h, fun _ _ _ => rfl, fun _ _ _ => rfl, fun c _ h => absurd h (by omega)⟩) (fun r hr => ⟨r.1, r.2.1, r.2.2, hr.1, fun post hp => hr.2 post hp⟩)
  · rintro ⟨m, cn, w, st⟩ ⟨h1, h2, h3, h4, h5⟩
    exact ⟨(cn, w, st), ⟨h4, fun c hc => h5 c hc (o2 c hc).1⟩, fun post hp => ⟨1, pk_le 16 16 (fun _ => hp) (fun z => absurd z (by omega))⟩⟩
  · rintro i ⟨m, cn, w, st⟩ hi ⟨h1, h2, h3, h4, h5⟩
    dsimp only at h1 h2 h3 h4 h5
    obtain ⟨hf, hoi, hp⟩ := o1 i hi
    have old : ∀ c, c < 16 → p c < i + 1 → ¬ c = f i → p c < i := by
      intro c hc h1 h2
      have h3 : p c ≠ i := fun q => h2 (by rw [← q]; exact ((o2 c hc).2).symm)
      omega
    -- the cell's own names lie earlier: a store at f i changes no value of a cell placed so far
    have keep : ∀ (v : Int32) c, c < 16 → p c < i + 1 → ¬ a1 c = 0 → wf_E a1 a2 a3 c (upd w (f i) v) = wf_E a1 a2 a3 c w := by
      intro v c hc hci h0
      refine wf_E_c hs hc h0 (fun e he hb => pk_un (fun q => ?_))
      have t := (o3 c hc e hb).2
      rw [q, hp] at t
      omega
    by_cases hW : bt W (f i) = true
    · by_cases hz : a4 (f i) &&& m = 0
      · refine ⟨(m, cn, w, st), ⟨h1, h2, fun c hc hci => h3 c hc (by omega), h4, fun c hc hci hb h0 => ?_⟩, fun post n H => wf_sB hi hf hoi hW hz H⟩
        by_cases hcc : c = f i
        · dsimp only
          have e1 : w c = a5 c := h3 c hc (by rw [hcc, hp]; omega)
          rw [e1, hC c hc hb h0 (fun e he hx => wf_and0.mp hz e ⟨by rw [← hcc]; exact he, h2 e hx⟩)]
          refine wf_E_c hs hc h0 (fun e he hb2 => (h1 e he (fun q => wf_and0.mp hz e ⟨by rw [← hcc]; exact hb2, q⟩)).symm)
        · exact h5 c hc (old c hc hci hcc) hb h0
      · by_cases hl : a1 (f i) = 0
        · refine ⟨(m, cn, w, st), ⟨h1, h2, fun c hc hci => h3 c hc (by omega), h4, fun c hc hci hb h0 => ?_⟩, fun post n H => wf_sC hi hf hoi hW hz hl H⟩
          by_cases hcc : c = f i
          · rw [hcc] at h0
            exact absurd hl h0
          · exact h5 c hc (old c hc hci hcc) hb h0
        · obtain ⟨st', hE, hN⟩ := wf_sD (ty := ty) (ro := ro) (co := co) (a5 := w) (a7 := a7) (a8 := a8) (a9 := a9) (a10 := a10) (a11 := a11) (a12 := a12) (a13 := st) (cn := cn) hi hf hoi hW hz (hs _ hf) hl
          by_cases hv : wf_E a1 a2 a3 (f i) w = w (f i)
          · refine ⟨(m, cn, w, st'), ⟨h1, h2, fun c hc hci => h3 c hc (by omega), h4, fun c hc hci hb h0 => ?_⟩, fun post n H => hE hv post n H⟩
            by_cases hcc : c = f i
            · rw [hcc]
              exact hv.symm
            · exact h5 c hc (old c hc hci hcc) hb h0
          · refine ⟨(m ||| ((1 : Int32) <<< (nI (f i) &&& 31)), cn + 1, upd w (f i) (wf_E a1 a2 a3 (f i) w), st'), ⟨fun c hc hb => ?_, fun e he => wf_or.mpr (Or.inl (h2 e he)), fun c hc hci => ?_, fun c hc hq => ?_, fun c hc hci hb h0 => ?_⟩, fun post n H => hN hv post n H⟩
            · have hb' : ¬ (bt m c = true ∨ c = f i) := fun q => hb ((wf_or1 hf (by omega)).mpr q)
              exact (pk_un (fun q => hb' (Or.inr q))).trans (h1 c hc (fun q => hb' (Or.inl q)))
            · exact (pk_un (fun q => by rw [q, hp] at hci; omega)).trans (h3 c hc (by omega))
            · refine (pk_un (fun q => ?_)).trans (h4 c hc hq)
              rw [q] at hq
              rcases hq with hq | hq
              · exact hq hW
              · exact hl hq
            · show upd w (f i) (wf_E a1 a2 a3 (f i) w) c = wf_E a1 a2 a3 c (upd w (f i) (wf_E a1 a2 a3 (f i) w))
              rw [keep _ c hc hci h0]
              by_cases hcc : c = f i
              · rw [hcc, pk_us]
              · rw [pk_un hcc]
                exact h5 c hc (old c hc hci hcc) hb h0
    · refine ⟨(m, cn, w, st), ⟨h1, h2, fun c hc hci => h3 c hc (by omega), h4, fun c hc hci hb h0 => ?_⟩, fun post n H => wf_sA hi hf hoi hW H⟩
      by_cases hcc : c = f i
      · rw [hcc] at hb
        exact absurd hb hW
      · exact h5 c hc (old c hc hci hcc) hb h0
end
end
section
/-! ===== walks: number ===== -/
section
variable {ty ro co : Int32} {a1 a2 a3 a4 a5 a6 a7 a8 a9 a10 a11 a12 a13 : Nat → Int32}
theorem wf_ord_u {f p : Nat → Nat} {x : Nat} (ho : wf_ord a4 a6 f p) : wf_ord (upd a4 x 0) a6 f p := by
  refine ⟨ho.1, ho.2.1, fun c hc e he => ?_⟩
  by_cases h : c = x
  · rw [h, pk_us, b_0] at he
    exact absurd he (by decide)
  · rw [pk_un h] at he
    exact ho.2.2 c hc e he
theorem wf_shs_u {x : Nat} (hs : wf_shs a1 a2 a3 a4) : wf_shs (upd a1 x 0) a2 a3 (upd a4 x 0) := by
  intro c hc
  by_cases h : c = x
  · rw [h, pk_us]
    exact Or.inl rfl
  · rw [pk_un h, pk_un h]
    exact hs c hc
theorem wf_E_u {x c : Nat} {v : Int32} {w : Nat → Int32} (h : ¬ c = x) : wf_E (upd a1 x v) a2 a3 c w = wf_E a1 a2 a3 c w := by
  unfold wf_E
  rw [pk_un h]
/-- what number(x, v) leaves: v at x, the other numbers as they were, every formula's value -/
def wf_num (n k a w w' : Nat → Int32) (x : Nat) (v : Int32) : Prop :=
  w' x = v ∧ (∀ c, c < 16 → ¬ c = x → n c = 0 → w' c = w c) ∧ (∀ c, c < 16 → ¬ c = x → ¬ n c = 0 → w' c = wf_E n k a c w')
theorem wf_number {f p : Nat → Nat} (ho : wf_ord a4 a6 f p) (hs : wf_shs a1 a2 a3 a4) (hc : wf_con a1 a2 a3 a5) {x : Nat} (hx : x < 16) (v : Int32) :
    ∃ (r : Int32) (w st : Nat → Int32), wf_num a1 a2 a3 a5 w x v ∧
      ∀ post : Int32 → St1 → Prop, post r (ty, ro, co, upd a1 x 0, a2, a3, upd a4 x 0, w, a6, a7, a8, a9, a10, a11, a12, st) → wpX_number post (ty, ro, co, a1, a2, a3, a4, a5, a6, a7, a8, a9, a10, a11, a12, a13) (nI x) v := by
  have hcl : (nI x).toNatClampNeg = x := nI_clamp (by omega)
  have hin : vp_in (nI x) 16 := pk_in x 16 hx
  by_cases he : a5 x = v
  · refine ⟨0, a5, a13, ⟨he, fun c _ _ _ => rfl, fun c h _ h0 => hc c h h0⟩, fun post hp => ?_⟩
    unfold wpX_number
    refine wf_off hx (br_t rfl ?_)
    rw [hcl]
    exact ⟨hin, nm_e ⟨hin, nm_e ⟨hin, br_t he hp⟩⟩⟩
  · obtain ⟨r, w, st, ⟨h1, h2⟩, h⟩ := wf_spread (ty := ty) (ro := ro) (co := co) (a5 := upd a5 x v) (a7 := a7) (a8 := a8) (a9 := a9) (a10 := a10) (a11 := a11) (a12 := a12) (a13 := a13) (wf_ord_u (x := x) ho) (wf_shs_u (x := x) hs) ((1 : Int32) <<< (nI x &&& 31)) 65535 (fun c hc16 _ h0 hn => by
      have hcx : ¬ c = x := fun q => h0 (by rw [q, pk_us])
      rw [pk_un hcx, wf_E_u hcx]
      rw [pk_un hcx] at h0 hn
      rw [hc c hc16 h0]
      refine wf_E_c hs hc16 h0 (fun e he16 hb => (pk_un (fun q => ?_)).symm)
      refine hn e hb ?_
      rw [wf_one x hx e (by omega)]
      exact decide_eq_true q)
    have hall : ∀ c, c < 16 → bt 65535 c = true := fun c h => by
      rw [b_65535]
      exact decide_eq_true h
    refine ⟨1 + r, w, st, ⟨?_, fun c h16 hcx h0 => ?_, fun c h16 hcx h0 => ?_⟩, fun post hp => ?_⟩
    · rw [h1 x hx (Or.inr pk_us), pk_us]
    · rw [h1 c h16 (Or.inr (by rw [pk_un hcx]; exact h0)), pk_un hcx]
    · rw [h2 c h16 (hall c h16) (by rw [pk_un hcx]; exact h0), wf_E_u hcx]
    · unfold wpX_number
      refine wf_off hx (br_t rfl ?_)
      rw [hcl]
      exact ⟨hin, nm_e ⟨hin, nm_e ⟨hin, br_f he ⟨hin, nm_e (h _ hp)⟩⟩⟩⟩
theorem wf_con_num {w' : Nat → Int32} {x : Nat} {v : Int32} (h : wf_num a1 a2 a3 a5 w' x v) : wf_con (upd a1 x 0) a2 a3 w' := by
  intro c hc h0
  have hcx : ¬ c = x := fun q => h0 (by rw [q, pk_us])
  rw [wf_E_u hcx]
  rw [pk_un hcx] at h0
  exact h.2.2 c hc hcx h0
end
end
section
/-! ===== walks: sortCells ===== -/
section
variable {ty ro co : Int32} {a1 a2 a3 a4 a5 a6 a7 a8 a9 a10 a11 a12 a13 : Nat → Int32}
def wf_rdy (nm : Nat → Int32) (m : Int32) (c : Nat) : Prop := bt m c = false ∧ ∀ e, bt (nm c) e = true → bt m e = true
theorem wf_rt {post : Int32 → Prop} {m : Int32} {c : Nat} (hc : c < 16) (h : wf_rdy a4 m c) (H : post 1) : wpX_readyToPlace post (ty, ro, co, a1, a2, a3, a4, a5, a6, a7, a8, a9, a10, a11, a12, a13) (nI c) m := by
  refine br_t ((wf_t0 hc).mpr h.1) ⟨pk_in c 16 hc, ?_⟩
  rw [nI_clamp (show c < 2 ^ 31 by omega)]
  exact br_t (wf_sub0.mpr h.2) H
theorem wf_rf {post : Int32 → Prop} {m : Int32} {c : Nat} (hc : c < 16) (h : ¬ wf_rdy a4 m c) (H : post 0) : wpX_readyToPlace post (ty, ro, co, a1, a2, a3, a4, a5, a6, a7, a8, a9, a10, a11, a12, a13) (nI c) m := by
  by_cases hb : bt m c = false
  · refine br_t ((wf_t0 hc).mpr hb) ⟨pk_in c 16 hc, ?_⟩
    rw [nI_clamp (show c < 2 ^ 31 by omega)]
    exact br_f (fun z => h ⟨hb, wf_sub0.mp z⟩) H
  · exact br_f (fun z => hb ((wf_t0 hc).mp z)) H
/-- the search ends at a cell that is ready -/
theorem wf_srch {m : Int32} {x2 : Int32} (h : ∃ c, c < 16 ∧ wf_rdy a4 m c) :
    ∃ c, (c < 16 ∧ wf_rdy a4 m c) ∧ ∀ (post : St1 → Prop) (J : Int32 → Int32 → (Nat → Int32) → (Nat → Int32) → (Nat → Int32) → (Nat → Int32) → (Nat → Int32) → (Nat → Int32) → (Nat → Int32) → (Nat → Int32) → (Nat → Int32) → (Nat → Int32) → (Nat → Int32) → (Nat → Int32) → (Nat → Int32) → Prop),
      wX_sortCells_33 post J m x2 (nI c) ty ro co a1 a2 a3 a4 a5 a6 a7 a8 a9 a10 a11 a12 a13 → ∃ n, wX_sortCells_12 post J m x2 ty ro co a1 a2 a3 a4 a5 a6 a7 a8 a9 a10 a11 a12 a13 n 0 := by
  obtain ⟨c, ⟨hc, hr⟩, hl⟩ := pk_least (fun c => c < 16 ∧ wf_rdy a4 m c) h
  refine ⟨c, ⟨hc, hr⟩, fun post J H => ?_⟩
  refine pk_loop (σ := Unit) (fun n i _ => wX_sortCells_12 post J m x2 ty ro co a1 a2 a3 a4 a5 a6 a7 a8 a9 a10 a11 a12 a13 n (nI i)) (fun _ _ => True) c 0 () (by omega) trivial ?_ ?_
  · intro n _ _
    exact pk_le 15 c (fun _ => H) (fun z => wf_rt hc hr (br_f (by decide) H))
  · intro n i _ hi _ hw
    exact pk_le 15 i (fun z => absurd z (by omega)) (fun z => wf_rf (by omega) (fun q => hl i hi ⟨by omega, q⟩) (br_t rfl (nm_r (nI_1 i) (hw () trivial))))
/-- some unplaced cell is ready, if names go down by a rank -/
theorem wf_has {nm : Nat → Int32} {m : Int32} (rk : Nat → Nat) (hk : ∀ c, c < 16 → ∀ e, bt (nm c) e = true → e < 16 ∧ rk e < rk c) :
    ∀ n c, rk c ≤ n → c < 16 → bt m c = false → ∃ c', c' < 16 ∧ wf_rdy nm m c' := by
  intro n
  induction n with
  | zero =>
    intro c h hc hb
    exact ⟨c, hc, hb, fun e he => absurd (hk c hc e he).2 (by omega)⟩
  | succ n ih =>
    intro c h hc hb
    by_cases hq : ∀ e, bt (nm c) e = true → bt m e = true
    · exact ⟨c, hc, hb, hq⟩
    · have hq' : ∃ e, bt (nm c) e = true ∧ ¬ bt m e = true :=
        Classical.byContradiction fun z => hq (fun e he => Classical.byContradiction fun w => z ⟨e, he, w⟩)
      obtain ⟨e, he, hm⟩ := hq'
      have h1 := hk c hc e he
      exact ih e (by omega) h1.1 (wf_f hm)
theorem wf_sort (rk : Nat → Nat) (hk : ∀ c, c < 16 → ∀ e, bt (a4 c) e = true → e < 16 ∧ rk e < rk c) :
    ∃ o : Nat → Int32, (∃ f p, wf_ord a4 o f p) ∧ ∀ post : St1 → Prop, post (ty, ro, co, a1, a2, a3, a4, a5, o, a7, a8, a9, a10, a11, a12, a13) → wpX_sortCells post (ty, ro, co, a1, a2, a3, a4, a5, a6, a7, a8, a9, a10, a11, a12, a13) := by
  refine wf_lp (P := St1 → Prop) (σ := Int32 × (Nat → Int32)) (R := Nat → Int32) (fun post o => post (ty, ro, co, a1, a2, a3, a4, a5, o, a7, a8, a9, a10, a11, a12, a13))
    (fun post n i s => wX_sortCells_4 post ty ro co n s.1 (nI i) a1 a2 a3 a4 a5 s.2 a7 a8 a9 a10 a11 a12 a13)
    (fun i s => ∃ f : Nat → Nat, (∀ j, j < i → f j < 16 ∧ s.2 j = nI (f j)) ∧ (∀ j k, j < i → k < i → f j = f k → j = k) ∧ (∀ e, bt s.1 e = true ↔ ∃ j, j < i ∧ f j = e) ∧ (∀ j, j < i → ∀ e, bt (a4 (f j)) e = true → ∃ k, k < j ∧ f k = e))
    _ 16 ?_ ?_ 16 0 (0, a6) rfl ⟨fun _ => 0, fun j h => absurd h (by omega), fun j k h => absurd h (by omega), fun e => ⟨fun h => absurd h (by rw [b_0]; decide), fun h => absurd h.choose_spec.1 (by omega)⟩, fun j h => absurd h (by omega)⟩
  · rintro ⟨m, o⟩ ⟨f, h1, h2, h3, h4⟩
    dsimp only at h1 h2 h3 h4
    refine ⟨o, ?_, fun post hp => ⟨1, pk_le 16 16 (fun _ => hp) (fun z => absurd z (by omega))⟩⟩
    have on : ∀ c, ∃ i, c < 16 → i < 16 ∧ f i = c := by
      intro c
      by_cases hc : c < 16
      · obtain ⟨i, h5, h6⟩ := wf_onto (n := 16) (fun i hi => (h1 i hi).1) h2 c hc
        exact ⟨i, fun _ => ⟨h5, h6⟩⟩
      · exact ⟨0, fun z => absurd z hc⟩
    obtain ⟨p, hp⟩ := Classical.skolem.mp on
    refine ⟨f, p, fun i hi => ⟨(h1 i hi).1, (h1 i hi).2, ?_⟩, fun c hc => hp c hc, fun c hc e he => ?_⟩
    · have h5 := hp (f i) (h1 i hi).1
      exact h2 _ _ h5.1 hi h5.2
    · have h5 := hp c hc
      have h6 := (hk c hc e he).1
      obtain ⟨k, hk1, hk2⟩ := h4 (p c) h5.1 e (by rw [h5.2]; exact he)
      have h7 := hp e h6
      have h8 : p e = k := h2 _ _ h7.1 (by omega) (h7.2.trans hk2.symm)
      exact ⟨h6, by omega⟩
  · rintro i ⟨m, o⟩ hi ⟨f, h1, h2, h3, h4⟩
    dsimp only at h1 h2 h3 h4
    obtain ⟨c0, hc0, hf0⟩ := wf_free f hi
    have hb0 : bt m c0 = false := wf_f (fun q => by
      obtain ⟨j, hj, e⟩ := (h3 c0).mp q
      exact hf0 j hj e)
    obtain ⟨c, ⟨hc, hr⟩, hw⟩ := wf_srch (ty := ty) (ro := ro) (co := co) (a1 := a1) (a2 := a2) (a3 := a3) (a5 := a5) (a6 := o) (a7 := a7) (a8 := a8) (a9 := a9) (a10 := a10) (a11 := a11) (a12 := a12) (a13 := a13) (x2 := nI i) (wf_has (m := m) rk hk _ c0 (Nat.le_refl _) hc0 hb0)
    have hnew : ∀ j, j < i → ¬ f j = c := fun j hj q => by
      have t := (h3 c).mpr ⟨j, hj, q⟩
      rw [hr.1] at t
      exact absurd t (by decide)
    refine ⟨(m ||| ((1 : Int32) <<< (nI c &&& 31)), upd o i (nI c)), ⟨fun j => if j = i then c else f j, ?_, ?_, ?_, ?_⟩, fun post n H => ?_⟩
    · intro j hj
      by_cases e : j = i
      · refine ⟨?_, ?_⟩
        · show (if j = i then c else f j) < 16
          rw [if_pos e]
          exact hc
        · show upd o i (nI c) j = nI (if j = i then c else f j)
          rw [if_pos e, e, pk_us]
      · refine ⟨?_, ?_⟩
        · show (if j = i then c else f j) < 16
          rw [if_neg e]
          exact (h1 j (by omega)).1
        · show upd o i (nI c) j = nI (if j = i then c else f j)
          rw [if_neg e, pk_un e]
          exact (h1 j (by omega)).2
    · intro j k hj hk' e
      have e' : (if j = i then c else f j) = (if k = i then c else f k) := e
      by_cases ej : j = i
      · by_cases ek : k = i
        · omega
        · rw [if_pos ej, if_neg ek] at e'
          exact absurd e'.symm (hnew k (by omega))
      · by_cases ek : k = i
        · rw [if_neg ej, if_pos ek] at e'
          exact absurd e' (hnew j (by omega))
        · rw [if_neg ej, if_neg ek] at e'
          exact h2 j k (by omega) (by omega) e'
    · intro e
      show bt (m ||| ((1 : Int32) <<< (nI c &&& 31))) e = true ↔ ∃ j, j < i + 1 ∧ (if j = i then c else f j) = e
      constructor
      · intro h
        rw [wf_or1 hc (wf_lt h)] at h
        rcases h with h | h
        · obtain ⟨j, hj, q⟩ := (h3 e).mp h
          exact ⟨j, by omega, by rw [if_neg (by omega)]; exact q⟩
        · exact ⟨i, by omega, by rw [if_pos rfl]; exact h.symm⟩
      · rintro ⟨j, hj, q⟩
        by_cases ej : j = i
        · rw [if_pos ej] at q
          rw [wf_or1 hc (by omega)]
          exact Or.inr q.symm
        · rw [if_neg ej] at q
          exact wf_or.mpr (Or.inl ((h3 e).mpr ⟨j, by omega, q⟩))
    · intro j hj e
      show bt (a4 (if j = i then c else f j)) e = true → ∃ k, k < j ∧ (if k = i then c else f k) = e
      by_cases ej : j = i
      · rw [if_pos ej]
        intro he
        obtain ⟨k, hk1, hk2⟩ := (h3 e).mp (hr.2 e he)
        exact ⟨k, by omega, by rw [if_neg (by omega)]; exact hk2⟩
      · rw [if_neg ej]
        intro he
        obtain ⟨k, hk1, hk2⟩ := h4 j (by omega) e he
        exact ⟨k, hk1, by rw [if_neg (by omega)]; exact hk2⟩
    · refine pk_le 16 i (fun z => absurd z (by omega)) (fun _ => hw _ _ ?_)
      exact ⟨pk_in i 16 hi, nm_r (by rw [nI_clamp (by omega)]) (nm_e (nm_r (nI_1 i) H))⟩
end
end
section
/-! ===== walks: formula ===== -/
section
variable {ty ro co : Int32} {a1 a2 a3 a4 a5 a6 a7 a8 a9 a10 a11 a12 a13 : Nat → Int32}
/-- what a sheet keeps -/
def wf_Inv (u : St1) : Prop := match u with
  | (_, _, _, b1, b2, b3, b4, b5, b6, _, _, _, b10, _, _, _) => (∃ f p, wf_ord b4 b6 f p) ∧ wf_shs b1 b2 b3 b4 ∧ wf_con b1 b2 b3 b5 ∧ b10 0 = 0 ∧ b10 1 = 0
/-- the typed tokens: one of the two shapes -/
def wf_tok (T : Nat) (k a : Nat → Int32) : Prop :=
  (T = 3 ∧ wf_opd (k 0) (a 0) (-1) ∧ wf_opd (k 1) (a 1) (-1) ∧ (k 2 = 2 ∨ k 2 = 3 ∨ k 2 = 4 ∨ k 2 = 5)) ∨ (T = 4 ∧ wf_opd (k 0) (a 0) (-1) ∧ wf_opd (k 1) (a 1) (-1) ∧ wf_opd (k 2) (a 2) (-1) ∧ k 3 = 7)
theorem wf_snd_s {post : Int32 → Prop} {T i d n : Nat} (q : Nat) (ht : ty = nI T) (hi : i < T) (hT : T ≤ 8) (hd : d ≤ 8) (hq : q ≤ d)
    (hk : (q = 0 ∧ (a7 i = 0 ∨ a7 i = 1)) ∨ (q = 2 ∧ (a7 i = 2 ∨ a7 i = 3 ∨ a7 i = 4 ∨ a7 i = 5)) ∨ (q = 3 ∧ a7 i = 7))
    (H : wX_sound_4 post ty ro co a1 a2 a3 a4 a5 a6 a7 a8 a9 a10 a11 a12 a13 n (nI (d - q + 1)) (nI (i + 1))) : wX_sound_4 post ty ro co a1 a2 a3 a4 a5 a6 a7 a8 a9 a10 a11 a12 a13 (n + 1) (nI d) (nI i) := by
  subst ht
  have e : nI d - nI q + 1 = nI (d - q + 1) := by rw [pk_sub hq, nI_1]
  refine pk_le T i (fun z => absurd z (by omega)) (fun _ => ⟨pk_in i 8 (by omega), ?_⟩)
  rw [nI_clamp (show i < 2 ^ 31 by omega)]
  rcases hk with ⟨h, hk⟩ | ⟨h, hk⟩ | ⟨h, hk⟩
  · subst h
    have hn : ¬ (1 : Int32) < a7 i := by
      rcases hk with h | h <;> (rw [h]; decide)
    exact br_f hn (pk_le 0 d (fun _ => nm_r e (nm_r (nI_1 i) H)) (fun z => absurd z (by omega)))
  · subst h
    have hn : (1 : Int32) < a7 i := by
      rcases hk with h | h | h | h <;> (rw [h]; decide)
    have hn7 : ¬ a7 i = 7 := by
      rcases hk with h | h | h | h <;> (rw [h]; decide)
    exact br_t hn (br_f hn7 (pk_le 2 d (fun _ => nm_r e (nm_r (nI_1 i) H)) (fun z => absurd z (by omega))))
  · subst h
    have hn : (1 : Int32) < a7 i := by
      rw [hk]
      decide
    exact br_t hn (br_t hk (pk_le 3 d (fun _ => nm_r e (nm_r (nI_1 i) H)) (fun z => absurd z (by omega))))
theorem wf_snd_e {post : Int32 → Prop} {T n : Nat} (ht : ty = nI T) (hT : T ≤ 8) (H : post 1) : wX_sound_4 post ty ro co a1 a2 a3 a4 a5 a6 a7 a8 a9 a10 a11 a12 a13 (n + 1) (nI 1) (nI T) := by
  subst ht
  exact pk_le T T (fun _ => br_t rfl H) (fun z => absurd z (by omega))
theorem wf_opd01 {k a m : Int32} (h : wf_opd k a m) : k = 0 ∨ k = 1 := by
  rcases h with h | h
  · exact Or.inl h
  · exact Or.inr h.1
theorem wf_sound {post : Int32 → Prop} {T : Nat} (ht : ty = nI T) (h : wf_tok T a7 a8) (H : post 1) : wpX_sound post (ty, ro, co, a1, a2, a3, a4, a5, a6, a7, a8, a9, a10, a11, a12, a13) := by
  rcases h with ⟨hT, h1, h2, h3⟩ | ⟨hT, h1, h2, h3, h4⟩
  · subst hT
    exact ⟨4, wf_snd_s (i := 0) (d := 0) 0 ht (by omega) (by omega) (by omega) (by omega) (Or.inl ⟨rfl, wf_opd01 h1⟩)
      (wf_snd_s (i := 1) (d := 1) 0 ht (by omega) (by omega) (by omega) (by omega) (Or.inl ⟨rfl, wf_opd01 h2⟩)
        (wf_snd_s (i := 2) (d := 2) 2 ht (by omega) (by omega) (by omega) (by omega) (Or.inr (Or.inl ⟨rfl, h3⟩)) (wf_snd_e ht (by omega) H)))⟩
  · subst hT
    exact ⟨5, wf_snd_s (i := 0) (d := 0) 0 ht (by omega) (by omega) (by omega) (by omega) (Or.inl ⟨rfl, wf_opd01 h1⟩)
      (wf_snd_s (i := 1) (d := 1) 0 ht (by omega) (by omega) (by omega) (by omega) (Or.inl ⟨rfl, wf_opd01 h2⟩)
        (wf_snd_s (i := 2) (d := 2) 0 ht (by omega) (by omega) (by omega) (by omega) (Or.inl ⟨rfl, wf_opd01 h3⟩)
          (wf_snd_s (i := 3) (d := 3) 3 ht (by omega) (by omega) (by omega) (by omega) (Or.inr (Or.inr ⟨rfl, h4⟩)) (wf_snd_e ht (by omega) H))))⟩
theorem wf_tnames {T : Nat} (ht : ty = nI T) (hT : T ≤ 8) (hk : ∀ j, j < T → a7 j = 1 → ∃ e, e < 16 ∧ a8 j = nI e) :
    ∃ M, ((∀ j, j < T → ∀ e, a7 j = 1 → e < 16 → a8 j = nI e → bt M e = true) ∧ (∀ e, bt M e = true → e < 16)) ∧ ∀ post : Int32 → Prop, post M → wpX_typedNames post (ty, ro, co, a1, a2, a3, a4, a5, a6, a7, a8, a9, a10, a11, a12, a13) := by
  subst ht
  refine wf_lp (P := Int32 → Prop) (σ := Int32) (R := Int32) (fun post r => post r) (fun post n i s => wX_typedNames_4 post (nI T) ro co a1 a2 a3 a4 a5 a6 a7 a8 a9 a10 a11 a12 a13 n s (nI i))
    (fun i s => (∀ j, j < i → ∀ e, a7 j = 1 → e < 16 → a8 j = nI e → bt s e = true) ∧ (∀ e, bt s e = true → e < 16)) _ T ?_ ?_ T 0 0 (by omega) ⟨fun j h => absurd h (by omega), fun e h => absurd h (by rw [b_0]; decide)⟩
  · intro s h
    exact ⟨s, h, fun post hp => ⟨1, pk_le T T (fun _ => hp) (fun z => absurd z (by omega))⟩⟩
  · intro i s hi h
    by_cases h1 : a7 i = 1
    · obtain ⟨e, he, ha⟩ := hk i hi h1
      refine ⟨s ||| ((1 : Int32) <<< (nI e &&& 31)), ⟨fun j hj e' hj1 he' hja => ?_, fun e' he' => ?_⟩, fun post n hw => ?_⟩
      · rw [wf_or1 he (by omega)]
        by_cases q : j = i
        · rw [q, ha] at hja
          exact Or.inr ((nI_eq (by omega) (by omega)).mp hja).symm
        · exact Or.inl (h.1 j (by omega) e' hj1 he' hja)
      · rw [wf_or1 he (wf_lt he')] at he'
        rcases he' with q | q
        · exact h.2 e' q
        · omega
      · refine pk_le T i (fun z => absurd z (by omega)) (fun _ => ⟨pk_in i 8 (by omega), ?_⟩)
        rw [nI_clamp (show i < 2 ^ 31 by omega), ha]
        exact br_t h1 ⟨pk_in i 8 (by omega), nm_e (nm_r (nI_1 i) hw)⟩
    · refine ⟨s, ⟨fun j hj e' hj1 he' hja => ?_, h.2⟩, fun post n hw => ?_⟩
      · by_cases q : j = i
        · rw [q] at hj1
          exact absurd hj1 h1
        · exact h.1 j (by omega) e' hj1 he' hja
      · refine pk_le T i (fun z => absurd z (by omega)) (fun _ => ⟨pk_in i 8 (by omega), ?_⟩)
        rw [nI_clamp (show i < 2 ^ 31 by omega)]
        exact br_f h1 (nm_r (nI_1 i) hw)
/-- the typed shape, as that of the cell it is stored in -/
theorem wf_tok_s {T : Nat} {M : Int32} {k a k' a' : Nat → Int32} (h : wf_tok T k a) (hM : ∀ j, j < T → ∀ e, k j = 1 → e < 16 → a j = nI e → bt M e = true) (hk : ∀ j, j < T → k' j = k j ∧ a' j = a j) : wf_shp (nI T) M k' a' := by
  have op : ∀ j, j < T → wf_opd (k j) (a j) (-1) → wf_opd (k' j) (a' j) M := by
    intro j hj h
    rw [(hk j hj).1, (hk j hj).2]
    exact wf_opd_m h (fun e h1 he ha => hM j hj e h1 he ha)
  rcases h with ⟨hT, h1, h2, h3⟩ | ⟨hT, h1, h2, h3, h4⟩
  · subst hT
    refine Or.inr (Or.inl ⟨rfl, op 0 (by omega) h1, op 1 (by omega) h2, ?_⟩)
    rw [(hk 2 (by omega)).1]
    exact h3
  · subst hT
    refine Or.inr (Or.inr ⟨rfl, op 0 (by omega) h1, op 1 (by omega) h2, op 2 (by omega) h3, ?_⟩)
    rw [(hk 3 (by omega)).1]
    exact h4
/-- behind the copying: order, value, spread -/
theorem wf_frest {f p : Nat → Nat} {x T : Nat} {M U : Int32} {k' a' : Nat → Int32} (hx : x < 16) (hT : T ≤ 8) (hT0 : 0 < T) (ho : wf_ord a4 a6 f p) (hs : wf_shs a1 a2 a3 a4) (hcon : wf_con a1 a2 a3 a5) (h10 : a10 0 = 0) (h11 : a10 1 = 0)
    (hUx : bt U x = true) (hU : ∀ c, c < 16 → ∀ e, bt (a4 c) e = true → bt U e = true → bt U c = true) (hM16 : ∀ e, bt M e = true → e < 16) (hMU : M &&& U = 0)
    (hsx : wf_shp (nI T) M (wf_bl k' x) (wf_bl a' x)) (hoth : ∀ c i, ¬ c = x → i < 8 → k' (c * 8 + i) = a2 (c * 8 + i) ∧ a' (c * 8 + i) = a3 (c * 8 + i)) :
    ∃ r : Int32 × St1, wf_Inv r.2 ∧ ∀ post : Int32 → St1 → Prop, post r.1 r.2 → ∃ n, wX_formula_67 post (nI x) M (nI T) 0 ro co n (nI T) (upd a1 x (nI T)) k' a' a4 a5 a6 a7 a8 a9 a10 a11 a12 a13 := by
  have hcl : (nI x).toNatClampNeg = x := nI_clamp (by omega)
  have hin : vp_in (nI x) 16 := pk_in x 16 hx
  have hTn : ¬ nI T = 0 := nI_ne0 hT0 (by omega)
  have hMx : ¬ bt M x = true := fun q => wf_and0.mp hMU x ⟨q, hUx⟩
  -- the rank
  obtain ⟨o, ⟨f', p', ho'⟩, hso⟩ := wf_sort (ty := 0) (ro := ro) (co := co) (a1 := upd a1 x (nI T)) (a2 := k') (a3 := a') (a4 := upd a4 x M) (a5 := a5) (a6 := a6) (a7 := a7) (a8 := a8) (a9 := a9) (a10 := a10) (a11 := a11) (a12 := a12) (a13 := a13) (fun c => p c + if bt U c = true then 16 else 0) (by
    intro c hc e he
    by_cases hcx : c = x
    · rw [hcx, pk_us] at he
      have he16 := hM16 e he
      have hUe : ¬ bt U e = true := fun q => wf_and0.mp hMU e ⟨he, q⟩
      have hpe := (ho.2.1 e he16).1
      refine ⟨he16, ?_⟩
      rw [hcx, if_pos hUx, if_neg hUe]
      omega
    · rw [pk_un hcx] at he
      have h1 := ho.2.2 c hc e he
      refine ⟨h1.1, ?_⟩
      by_cases hUe : bt U e = true
      · rw [if_pos hUe, if_pos (hU c hc e he hUe)]
        omega
      · rw [if_neg hUe]
        omega)
  have hs' : wf_shs (upd a1 x (nI T)) k' a' (upd a4 x M) := by
    intro c hc
    by_cases hcx : c = x
    · rw [hcx, pk_us, pk_us]
      exact hsx
    · rw [pk_un hcx, pk_un hcx]
      exact wf_shp_c (hs c hc) rfl rfl (fun i hi => (hoth c i hcx hi).1) (fun i hi => (hoth c i hcx hi).2)
  have hE : ∀ c w, ¬ c = x → wf_E (upd a1 x (nI T)) k' a' c w = wf_E a1 a2 a3 c w := fun c w hcx =>
    wf_ev_b (pk_un hcx) (fun i hi => (hoth c i hcx hi).1) (fun i hi => (hoth c i hcx hi).2)
  have hx0 : ¬ upd a1 x (nI T) x = 0 := by
    rw [pk_us]
    exact hTn
  have h16 : ∀ c, c < 16 → bt 65535 c = true := fun c h => by
    rw [b_65535]
    exact decide_eq_true h
  obtain ⟨st, hwk⟩ := wf_work (ty := 0) (ro := ro) (co := co) (a1 := upd a1 x (nI T)) (a2 := k') (a3 := a') (a4 := upd a4 x M) (a5 := a5) (a6 := o) (a7 := a7) (a8 := a8) (a9 := a9) (a10 := a10) (a11 := a11) (a12 := a12) (a13 := a13) hx (hs' x hx) hx0
  by_cases he : wf_E (upd a1 x (nI T)) k' a' x a5 = a5 x
  · refine ⟨(0, (0, ro, co, upd a1 x (nI T), k', a', upd a4 x M, a5, o, a7, a8, a9, a10, a11, a12, st)), ⟨⟨f', p', ho'⟩, hs', ?_, h10, h11⟩, fun post hp => ⟨1, ?_⟩⟩
    · intro c hc h0
      by_cases hcx : c = x
      · rw [hcx]
        exact he.symm
      · rw [hE c _ hcx]
        rw [pk_un hcx] at h0
        exact hcon c hc h0
    · refine pk_le T T (fun _ => ?_) (fun z => absurd z (by omega))
      rw [hcl]
      exact ⟨hin, nm_e (hso _ (hwk _ ⟨hin, br_t he hp⟩))⟩
  · obtain ⟨r, w, st2, ⟨_, h2⟩, hsp⟩ := wf_spread (ty := 0) (ro := ro) (co := co) (a1 := upd a1 x (nI T)) (a2 := k') (a3 := a') (a4 := upd a4 x M) (a5 := upd a5 x (wf_E (upd a1 x (nI T)) k' a' x a5)) (a6 := o) (a7 := a7) (a8 := a8) (a9 := a9) (a10 := a10) (a11 := a11) (a12 := a12) (a13 := st) ho' hs' ((1 : Int32) <<< (nI x &&& 31)) 65535 (by
      intro c hc _ h0 hn
      have hnx : ∀ e, bt (upd a4 x M c) e = true → ¬ e = x := fun e hb q => hn e hb (by
        rw [wf_one x hx e (wf_lt hb)]
        exact decide_eq_true q)
      have hk := wf_E_c (w := upd a5 x (wf_E (upd a1 x (nI T)) k' a' x a5)) (w' := a5) hs' hc h0 (fun e he hb => pk_un (hnx e hb))
      rw [hk]
      by_cases hcx : c = x
      · rw [hcx, pk_us]
      · rw [pk_un hcx, hE c _ hcx]
        rw [pk_un hcx] at h0
        exact hcon c hc h0)
    refine ⟨(0, (0, ro, co, upd a1 x (nI T), k', a', upd a4 x M, w, o, a7, a8, a9, a10, a11, a12, st2)), ⟨⟨f', p', ho'⟩, hs', fun c hc h0 => h2 c hc (h16 c hc) h0, h10, h11⟩, fun post hp => ⟨1, ?_⟩⟩
    refine pk_le T T (fun _ => ?_) (fun z => absurd z (by omega))
    rw [hcl]
    exact ⟨hin, nm_e (hso _ (hwk _ ⟨hin, br_f he ⟨hin, nm_e (hsp _ hp)⟩⟩))⟩
theorem wf_formula {x T : Nat} (hx : x < 16) (ht : ty = nI T) (htok : wf_tok T a7 a8) (hI : wf_Inv (ty, ro, co, a1, a2, a3, a4, a5, a6, a7, a8, a9, a10, a11, a12, a13)) :
    ∃ r : Int32 × St1, wf_Inv r.2 ∧ ∀ post : Int32 → St1 → Prop, post r.1 r.2 → wpX_formula post (ty, ro, co, a1, a2, a3, a4, a5, a6, a7, a8, a9, a10, a11, a12, a13) (nI x) := by
  subst ht
  obtain ⟨⟨f, p, ho⟩, hs, hcon, h10, h11⟩ := hI
  have hT : T ≤ 8 ∧ 0 < T := by
    rcases htok with ⟨h, _⟩ | ⟨h, _⟩ <;> omega
  have hkk : ∀ j, j < T → a7 j = 1 → ∃ e, e < 16 ∧ a8 j = nI e := by
    have op : ∀ k a : Int32, wf_opd k a (-1) → k = 1 → ∃ e, e < 16 ∧ a = nI e := by
      intro k a h h1
      rcases h with h | ⟨_, e, he, ha, _⟩
      · rw [h] at h1
        exact absurd h1 (by decide)
      · exact ⟨e, he, ha⟩
    intro j hj h1
    rcases htok with ⟨hT3, h⟩ | ⟨hT4, h⟩
    · have hj' : j = 0 ∨ j = 1 ∨ j = 2 := by omega
      rcases hj' with q | q | q
      · subst q
        exact op _ _ h.1 h1
      · subst q
        exact op _ _ h.2.1 h1
      · subst q
        have h3 := h.2.2
        rw [h1] at h3
        exact absurd h3 (by decide)
    · have hj' : j = 0 ∨ j = 1 ∨ j = 2 ∨ j = 3 := by omega
      rcases hj' with q | q | q | q
      · subst q
        exact op _ _ h.1 h1
      · subst q
        exact op _ _ h.2.1 h1
      · subst q
        exact op _ _ h.2.2.1 h1
      · subst q
        have h3 := h.2.2.2
        rw [h1] at h3
        exact absurd h3 (by decide)
  have hcl : (nI x).toNatClampNeg = x := nI_clamp (by omega)
  have hin : vp_in (nI x) 16 := pk_in x 16 hx
  obtain ⟨M, ⟨hM1, hM2⟩, hMw⟩ := wf_tnames (ty := nI T) (ro := ro) (co := co) (a1 := a1) (a2 := a2) (a3 := a3) (a4 := a4) (a5 := a5) (a6 := a6) (a9 := a9) (a10 := a10) (a11 := a11) (a12 := a12) (a13 := a13) rfl hT.1 hkk
  obtain ⟨U, ⟨hU1, hU2⟩, hUw⟩ := wf_above (ty := nI T) (ro := ro) (co := co) (a1 := a1) (a2 := a2) (a3 := a3) (a5 := a5) (a7 := a7) (a8 := a8) (a9 := a9) (a10 := a10) (a11 := a11) (a12 := a12) (a13 := a13) ho ((1 : Int32) <<< (nI x &&& 31))
  have hUx : bt U x = true := hU1 x (by
    rw [wf_one x hx x (by omega)]
    exact decide_eq_true rfl)
  by_cases hz : M &&& U = 0
  · have key : ∃ r : Int32 × St1, wf_Inv r.2 ∧ ∀ post : Int32 → St1 → Prop, post r.1 r.2 → ∃ n, wX_formula_67 post (nI x) M (nI T) 0 ro co n (nI 0) (upd a1 x (nI T)) a2 a3 a4 a5 a6 a7 a8 a9 a10 a11 a12 a13 := by
      refine wf_lp (P := Int32 → St1 → Prop) (σ := (Nat → Int32) × (Nat → Int32)) (R := Int32 × St1) (fun post r => post r.1 r.2)
        (fun post n i s => wX_formula_67 post (nI x) M (nI T) 0 ro co n (nI i) (upd a1 x (nI T)) s.1 s.2 a4 a5 a6 a7 a8 a9 a10 a11 a12 a13)
        (fun i s => (∀ j, j < i → s.1 (x * 8 + j) = a7 j ∧ s.2 (x * 8 + j) = a8 j) ∧ (∀ c i, ¬ c = x → i < 8 → s.1 (c * 8 + i) = a2 (c * 8 + i) ∧ s.2 (c * 8 + i) = a3 (c * 8 + i)))
        _ T ?_ ?_ T 0 (a2, a3) (by omega) ⟨fun j h => absurd h (by omega), fun c i _ _ => ⟨rfl, rfl⟩⟩
      · rintro ⟨k', a'⟩ ⟨h1, h2⟩
        exact wf_frest hx hT.1 hT.2 ho hs hcon h10 h11 hUx hU2 hM2 hz (wf_tok_s htok hM1 h1) h2
      · rintro i ⟨k', a'⟩ hi ⟨h1, h2⟩
        dsimp only at h1 h2
        refine ⟨(upd k' (x * 8 + i) (a7 i), upd a' (x * 8 + i) (a8 i)), ⟨fun j hj => ?_, fun c j hcx hj => ?_⟩, fun post n hw => ?_⟩
        · dsimp only
          by_cases q : j = i
          · rw [q, pk_us, pk_us]
            exact ⟨rfl, rfl⟩
          · rw [pk_un (by omega), pk_un (by omega)]
            exact h1 j (by omega)
        · dsimp only
          rw [pk_un (by omega), pk_un (by omega)]
          exact h2 c j hcx hj
        · refine pk_le T i (fun z => absurd z (by omega)) (fun _ => ?_)
          rw [wf_ix, nI_clamp (show x * 8 + i < 2 ^ 31 by omega), nI_clamp (show i < 2 ^ 31 by omega)]
          exact ⟨pk_in i 8 (by omega), pk_in (x * 8 + i) 128 (by omega), nm_e ⟨pk_in i 8 (by omega), pk_in (x * 8 + i) 128 (by omega), nm_e (nm_r (nI_1 i) hw)⟩⟩
    obtain ⟨r, hr, hw⟩ := key
    refine ⟨r, hr, fun post hp => ?_⟩
    unfold wpX_formula
    refine wf_off hx (br_t rfl (wf_sound rfl htok (hMw _ (hUw _ (br_f (by decide) (br_t hz ?_))))))
    rw [hcl]
    exact ⟨hin, nm_e (hw post hp)⟩
  · refine ⟨(-5, (0, ro, co, a1, a2, a3, a4, a5, a6, a7, a8, a9, a10, a11, a12, a13)), ⟨⟨f, p, ho⟩, hs, hcon, h10, h11⟩, fun post hp => ?_⟩
    unfold wpX_formula
    exact wf_off hx (br_t rfl (wf_sound rfl htok (hMw _ (hUw _ (br_f (by decide) (br_f hz hp))))))
end
end
section
/-! ===== walks: fill ===== -/
section
variable {ty ro co : Int32} {a1 a2 a3 a4 a5 a6 a7 a8 a9 a10 a11 a12 a13 : Nat → Int32}
theorem wf_tk25 {post : Int32 → St1 → Prop} {t : Nat} {k a : Int32} (h8 : t < 8)
    (H : post (nI (t + 1)) (nI (t + 1), ro, co, a1, a2, a3, a4, a5, a6, upd a7 t k, upd a8 t a, a9, a10, a11, a12, a13)) : wX_token_25 post k a (nI t) ro co a1 a2 a3 a4 a5 a6 a7 a8 a9 a10 a11 a12 a13 := by
  refine pk_lt t 8 (fun _ => ?_) (fun z => absurd z (by omega))
  rw [nI_clamp (show t < 2 ^ 31 by omega)]
  exact ⟨pk_in t 8 h8, nm_e ⟨pk_in t 8 h8, nm_e (nm_r (nI_1 t) H)⟩⟩
theorem wf_token {post : Int32 → St1 → Prop} {k a : Int32} (t : Nat) (h8 : t < 8) (h0 : ¬ k < 0) (h7 : ¬ 7 < k) (h1 : k = 1 → ∃ e, e < 16 ∧ a = nI e)
    (H : post (nI (t + 1)) (nI (t + 1), ro, co, a1, a2, a3, a4, a5, a6, upd a7 t k, upd a8 t a, a9, a10, a11, a12, a13)) : wpX_token post (nI t, ro, co, a1, a2, a3, a4, a5, a6, a7, a8, a9, a10, a11, a12, a13) k a := by
  refine br_f h0 (br_f h7 ?_)
  by_cases hk : k = 1
  · obtain ⟨e, he, ha⟩ := h1 hk
    refine br_t hk ?_
    rw [ha]
    rw [ha] at H
    exact wf_off he (br_t rfl (wf_tk25 h8 H))
  · exact br_f hk (wf_tk25 h8 H)
theorem wf_clear {post : St1 → Prop} (H : post (nI 0, ro, co, a1, a2, a3, a4, a5, a6, a7, a8, a9, a10, a11, a12, a13)) : wpX_clearTokens post (ty, ro, co, a1, a2, a3, a4, a5, a6, a7, a8, a9, a10, a11, a12, a13) := H
/-- the operation's kind: 2 to 5 -/
theorem wf_kind (v : Int32) : (2 + (v &&& 3) = 2 ∨ 2 + (v &&& 3) = 3 ∨ 2 + (v &&& 3) = 4 ∨ 2 + (v &&& 3) = 5) := by
  obtain ⟨j, hj, e⟩ := pk_andE v (m := 3) 2 (by decide)
  rw [e]
  have hj' : j = 0 ∨ j = 1 ∨ j = 2 ∨ j = 3 := by omega
  rcases hj' with q | q | q | q <;> (subst q; decide)
theorem wf_kind2 {k : Int32} (h : k = 2 ∨ k = 3 ∨ k = 4 ∨ k = 5) : ¬ k < 0 ∧ ¬ 7 < k ∧ ¬ k = 1 := by
  rcases h with q | q | q | q <;> (subst q; decide)
theorem wf_ocell {y : Nat} (hy : y < 16) : wf_opd 1 (nI y) (-1) := Or.inr ⟨rfl, y, hy, rfl, b_m1 y (by omega)⟩
theorem wf_onum {v : Int32} : wf_opd 0 v (-1) := Or.inl rfl
theorem wf_Inv_t {ty' : Int32} {a7' a8' : Nat → Int32} (h : wf_Inv (ty, ro, co, a1, a2, a3, a4, a5, a6, a7, a8, a9, a10, a11, a12, a13)) : wf_Inv (ty', ro, co, a1, a2, a3, a4, a5, a6, a7', a8', a9, a10, a11, a12, a13) := h
theorem wf_fill {kd x y : Nat} {v : Int32} (hk : kd < 16) (hx : x < 16) (hy : y < 16) (hI : wf_Inv (ty, ro, co, a1, a2, a3, a4, a5, a6, a7, a8, a9, a10, a11, a12, a13)) :
    ∃ u : St1, wf_Inv u ∧ ∀ post : St1 → Prop, post u → wpL_fill post (ty, ro, co, a1, a2, a3, a4, a5, a6, a7, a8, a9, a10, a11, a12, a13) (nI kd) (nI x) (nI y) v := by
  have y1 : ∃ e, e < 16 ∧ (nI y + 1) &&& 15 = nI e := ⟨(y + 1) % 2 ^ 4, by omega, by rw [nI_1]; exact pk_andN (by omega) 4 (by decide)⟩
  have y3 : ∃ e, e < 16 ∧ (nI y + 3) &&& 15 = nI e := ⟨(y + 3) % 2 ^ 4, by omega, by rw [show (3 : Int32) = nI 3 from rfl, nI_add]; exact pk_andN (by omega) 4 (by decide)⟩
  by_cases h4 : kd < 4
  · obtain ⟨⟨f, p, ho⟩, hs, hcon, h10, h11⟩ := hI
    obtain ⟨r, w, st, hn, hw⟩ := wf_number (ty := ty) (ro := ro) (co := co) (a7 := a7) (a8 := a8) (a9 := a9) (a10 := a10) (a11 := a11) (a12 := a12) (a13 := a13) ho hs hcon hx v
    refine ⟨(ty, ro, co, upd a1 x 0, a2, a3, upd a4 x 0, w, a6, a7, a8, a9, a10, a11, a12, st), ⟨⟨f, p, wf_ord_u ho⟩, wf_shs_u hs, wf_con_num hn, h10, h11⟩, fun post hp => ?_⟩
    exact pk_le 4 kd (fun z => absurd z (by omega)) (fun _ => hw _ hp)
  · by_cases h8 : kd < 8
    · have hq := wf_kind v
      have hq2 := wf_kind2 hq
      obtain ⟨⟨r, b0, b1, b2, b3, b4, b5, b6, b7, b8, b9, b10, b11, b12, b13, b14, b15⟩, hu, hw⟩ := wf_formula (ty := nI 3) (a7 := upd (upd (upd a7 0 1) 1 0) 2 (2 + (v &&& 3))) (a8 := upd (upd (upd a8 0 (nI y)) 1 v) 2 0) hx rfl (Or.inl ⟨rfl, wf_ocell hy, wf_onum, hq⟩) (wf_Inv_t hI)
      refine ⟨(b0, b1, b2, b3, b4, b5, b6, b7, b8, b9, b10, b11, b12, b13, b14, b15), hu, fun post hp => ?_⟩
      refine pk_le 4 kd (fun _ => pk_le 8 kd (fun z => absurd z (by omega)) (fun _ => wf_clear ?_)) (fun z => absurd z (by omega))
      refine wf_token 0 (by omega) (by decide) (by decide) (fun _ => ⟨y, hy, rfl⟩) ?_
      refine wf_token 1 (by omega) (by decide) (by decide) (fun z => absurd z (by decide)) ?_
      refine wf_token 2 (by omega) hq2.1 hq2.2.1 (fun z => absurd z hq2.2.2) ?_
      exact hw _ hp
    · by_cases h12 : kd < 12
      · have hq := wf_kind v
        have hq2 := wf_kind2 hq
        obtain ⟨e, he, hye⟩ := y3
        obtain ⟨⟨r, b0, b1, b2, b3, b4, b5, b6, b7, b8, b9, b10, b11, b12, b13, b14, b15⟩, hu, hw⟩ := wf_formula (ty := nI 3) (a7 := upd (upd (upd a7 0 1) 1 1) 2 (2 + (v &&& 3))) (a8 := upd (upd (upd a8 0 (nI y)) 1 ((nI y + 3) &&& 15)) 2 0) hx rfl (Or.inl ⟨rfl, wf_ocell hy, (by rw [hye]; exact wf_ocell he), hq⟩) (wf_Inv_t hI)
        refine ⟨(b0, b1, b2, b3, b4, b5, b6, b7, b8, b9, b10, b11, b12, b13, b14, b15), hu, fun post hp => ?_⟩
        refine pk_le 4 kd (fun _ => pk_le 8 kd (fun _ => pk_le 12 kd (fun z => absurd z (by omega)) (fun _ => wf_clear ?_)) (fun z => absurd z (by omega))) (fun z => absurd z (by omega))
        refine wf_token 0 (by omega) (by decide) (by decide) (fun _ => ⟨y, hy, rfl⟩) ?_
        refine wf_token 1 (by omega) (by decide) (by decide) (fun _ => ⟨e, he, hye⟩) ?_
        refine wf_token 2 (by omega) hq2.1 hq2.2.1 (fun z => absurd z hq2.2.2) ?_
        exact hw _ hp
      · obtain ⟨e, he, hye⟩ := y1
        obtain ⟨⟨r, b0, b1, b2, b3, b4, b5, b6, b7, b8, b9, b10, b11, b12, b13, b14, b15⟩, hu, hw⟩ := wf_formula (ty := nI 4) (a7 := upd (upd (upd (upd a7 0 1) 1 1) 2 0) 3 7) (a8 := upd (upd (upd (upd a8 0 (nI y)) 1 ((nI y + 1) &&& 15)) 2 v) 3 0) hx rfl (Or.inr ⟨rfl, wf_ocell hy, (by rw [hye]; exact wf_ocell he), wf_onum, rfl⟩) (wf_Inv_t hI)
        refine ⟨(b0, b1, b2, b3, b4, b5, b6, b7, b8, b9, b10, b11, b12, b13, b14, b15), hu, fun post hp => ?_⟩
        refine pk_le 4 kd (fun _ => pk_le 8 kd (fun _ => pk_le 12 kd (fun _ => wf_clear ?_) (fun z => absurd z (by omega))) (fun z => absurd z (by omega))) (fun z => absurd z (by omega))
        refine wf_token 0 (by omega) (by decide) (by decide) (fun _ => ⟨y, hy, rfl⟩) ?_
        refine wf_token 1 (by omega) (by decide) (by decide) (fun _ => ⟨e, he, hye⟩) ?_
        refine wf_token 2 (by omega) (by decide) (by decide) (fun z => absurd z (by decide)) ?_
        refine wf_token 3 (by omega) (by decide) (by decide) (fun z => absurd z (by decide)) ?_
        exact hw _ hp
end
end
section
/-! ===== walks: table ===== -/
/-- what the sheet answers with row set to P and col set to Q: the numbers as they were, every formula's value -/
def wf_res (n k a w : Nat → Int32) (row col : Nat) (P Q : Int32) (d : Nat → Int32) : Prop :=
  d row = P ∧ d col = Q ∧ (∀ c, c < 16 → ¬ c = row → ¬ c = col → n c = 0 → d c = w c) ∧ (∀ c, c < 16 → ¬ c = row → ¬ c = col → ¬ n c = 0 → d c = wf_E n k a c d)
section
variable {ty ro co : Int32} {a1 a2 a3 a4 a5 a6 a7 a8 a9 a10 a11 a12 a13 : Nat → Int32}
theorem wf_uniq {f p : Nat → Nat} {row col out : Nat} {A B : Int32} {P Q : Int32} {w d : Nat → Int32} (ho : wf_ord a4 a6 f p) (hs : wf_shs a1 a2 a3 a4) (hcon : wf_con a1 a2 a3 a5) (hout : out < 16)
    (hAr : bt A row = true) (hAc : bt A col = true) (hA : ∀ c, c < 16 → ∀ e, bt (a4 c) e = true → bt A e = true → bt A c = true)
    (hBo : bt B out = true) (hB : ∀ c, c < 16 → bt B c = true → ∀ e, bt (a4 c) e = true → bt B e = true)
    (w1 : w row = P) (w2 : w col = Q) (w3 : ∀ c, c < 16 → ¬ c = row → ¬ c = col → (¬ (bt A c = true ∧ bt B c = true) ∨ a1 c = 0) → w c = a5 c)
    (w4 : ∀ c, c < 16 → ¬ c = row → ¬ c = col → (bt A c = true ∧ bt B c = true) → ¬ a1 c = 0 → w c = wf_E a1 a2 a3 c w)
    (hd : wf_res a1 a2 a3 a5 row col P Q d) : w out = d out := by
  obtain ⟨d1, d2, d3, d4⟩ := hd
  have main : ∀ n c, p c < n → c < 16 → bt B c = true → w c = d c := by
    intro n
    induction n with
    | zero => exact fun c h => absurd h (by omega)
    | succ n ih =>
      intro c hn hc hb
      by_cases hr : c = row
      · rw [hr, w1, d1]
      · by_cases hl : c = col
        · rw [hl, w2, d2]
        · by_cases h0 : a1 c = 0
          · rw [w3 c hc hr hl (Or.inr h0), d3 c hc hr hl h0]
          · by_cases ha : bt A c = true
            · rw [w4 c hc hr hl ⟨ha, hb⟩ h0, d4 c hc hr hl h0]
              refine wf_E_c hs hc h0 (fun e he hbe => ih e ?_ he (hB c hc hb e hbe))
              have := (ho.2.2 c hc e hbe).2
              omega
            · rw [w3 c hc hr hl (Or.inl (fun q => ha q.1)), d4 c hc hr hl h0, hcon c hc h0]
              refine wf_E_c hs hc h0 (fun e he hbe => ?_)
              have hae : ¬ bt A e = true := fun q => ha (hA c hc e hbe q)
              have her : ¬ e = row := fun q => hae (by rw [q]; exact hAr)
              have hec : ¬ e = col := fun q => hae (by rw [q]; exact hAc)
              have hp := (ho.2.2 c hc e hbe).2
              rw [← ih e (by omega) he (hB c hc hb e hbe), w3 e he her hec (Or.inl (fun q => hae q.1))]
  exact main (p out + 1) out (by omega) hout hBo
theorem wf_t214 : ∃ w : Nat → Int32, (∀ c, c < 16 → w c = a12 c) ∧ ∀ post : Int32 → St1 → Prop, post (ro * co) (ty, ro, co, a1, a2, a3, a4, w, a6, a7, a8, a9, a10, a11, a12, a13) → ∃ n, wX_table_214 post ty ro co n (nI 0) a1 a2 a3 a4 a5 a6 a7 a8 a9 a10 a11 a12 a13 := by
  refine wf_lp (P := Int32 → St1 → Prop) (σ := Nat → Int32) (R := Nat → Int32) (fun post w => post (ro * co) (ty, ro, co, a1, a2, a3, a4, w, a6, a7, a8, a9, a10, a11, a12, a13)) (fun post n i s => wX_table_214 post ty ro co n (nI i) a1 a2 a3 a4 s a6 a7 a8 a9 a10 a11 a12 a13)
    (fun i s => ∀ c, c < i → s c = a12 c) _ 16 ?_ ?_ 16 0 a5 rfl (fun c h => absurd h (by omega))
  · intro s h
    exact ⟨s, h, fun post hp => ⟨1, pk_le 16 16 (fun _ => hp) (fun z => absurd z (by omega))⟩⟩
  · intro i s hi h
    refine ⟨upd s i (a12 i), fun c hc => ?_, fun post n hw => ?_⟩
    · by_cases q : c = i
      · rw [q, pk_us]
      · rw [pk_un q]
        exact h c (by omega)
    · refine pk_le 16 i (fun z => absurd z (by omega)) (fun _ => ?_)
      rw [nI_clamp (show i < 2 ^ 31 by omega)]
      exact ⟨pk_in i 16 hi, pk_in i 16 hi, nm_e (nm_r (nI_1 i) hw)⟩
theorem wf_t93 {x1 x2 x3 x4 x5 : Int32} : ∃ b : Nat → Int32, (∀ c, c < 16 → b c = a5 c) ∧ ∀ post : Int32 → St1 → Prop, (∃ n, wX_table_123 post x1 x2 x3 x4 x5 n (nI 0) ty ro co a1 a2 a3 a4 a5 a6 a7 a8 a9 a10 a11 b a13) → ∃ n, wX_table_93 post x1 x2 x3 x4 x5 ty ro co n (nI 0) a1 a2 a3 a4 a5 a6 a7 a8 a9 a10 a11 a12 a13 := by
  refine wf_lp (P := Int32 → St1 → Prop) (σ := Nat → Int32) (R := Nat → Int32) (fun post b => ∃ n, wX_table_123 post x1 x2 x3 x4 x5 n (nI 0) ty ro co a1 a2 a3 a4 a5 a6 a7 a8 a9 a10 a11 b a13) (fun post n i s => wX_table_93 post x1 x2 x3 x4 x5 ty ro co n (nI i) a1 a2 a3 a4 a5 a6 a7 a8 a9 a10 a11 s a13)
    (fun i s => ∀ c, c < i → s c = a5 c) _ 16 ?_ ?_ 16 0 a12 rfl (fun c h => absurd h (by omega))
  · intro s h
    exact ⟨s, h, fun post hp => ⟨1, pk_le 16 16 (fun _ => hp) (fun z => absurd z (by omega))⟩⟩
  · intro i s hi h
    refine ⟨upd s i (a5 i), fun c hc => ?_, fun post n hw => ?_⟩
    · by_cases q : c = i
      · rw [q, pk_us]
      · rw [pk_un q]
        exact h c (by omega)
    · refine pk_le 16 i (fun z => absurd z (by omega)) (fun _ => ?_)
      rw [nI_clamp (show i < 2 ^ 31 by omega)]
      exact ⟨pk_in i 16 hi, pk_in i 16 hi, nm_e (nm_r (nI_1 i) hw)⟩
/-- one place of the table -/
theorem wf_t135 {f p : Nat → Nat} {row col out i : Nat} {src cone : Int32} {N : Nat → Int32} (ho : wf_ord a4 a6 f p) (hs : wf_shs a1 a2 a3 a4) (hout : out < 16) (hrow : row < 16) (hcol : col < 16) (hrc : ¬ row = col) (hi : i < 4)
    (hsrc : ∀ e, e < 16 → (bt src e = true ↔ e = row ∨ e = col)) (hcr : ¬ bt cone row = true) (hcc : ¬ bt cone col = true) (hco : co = nI 1)
    (h1 : ∀ c, c < 16 → ¬ c = row → ¬ c = col → (¬ bt cone c = true ∨ a1 c = 0) → a5 c = N c) (h2 : ∀ c, c < 16 → bt cone c = true → ¬ a1 c = 0 → a5 c = wf_E a1 a2 a3 c a5) :
    ∃ w st : Nat → Int32, (w row = a9 i ∧ w col = a9 4 ∧ (∀ c, c < 16 → ¬ c = row → ¬ c = col → (¬ bt cone c = true ∨ a1 c = 0) → w c = N c) ∧ (∀ c, c < 16 → bt cone c = true → ¬ a1 c = 0 → w c = wf_E a1 a2 a3 c w)) ∧
      ∀ (post : Int32 → St1 → Prop) (J : Int32 → Int32 → Int32 → Int32 → (Nat → Int32) → (Nat → Int32) → (Nat → Int32) → (Nat → Int32) → (Nat → Int32) → (Nat → Int32) → (Nat → Int32) → (Nat → Int32) → (Nat → Int32) → (Nat → Int32) → (Nat → Int32) → (Nat → Int32) → (Nat → Int32) → Prop),
        J (nI (i + 1)) ty ro co a1 a2 a3 a4 w a6 a7 a8 a9 a10 (upd a11 (i * 4) (w out)) a12 st → ∃ n, wX_table_135 post J (nI out) (nI row) (nI col) src cone (nI i) n (nI 0) ty ro co a1 a2 a3 a4 a5 a6 a7 a8 a9 a10 a11 a12 a13 := by
  subst hco
  obtain ⟨r, w, st, ⟨s1, s2⟩, hw⟩ := wf_spread (ty := ty) (ro := ro) (co := nI 1) (a5 := upd (upd a5 row (a9 i)) col (a9 4)) (a7 := a7) (a8 := a8) (a9 := a9) (a10 := a10) (a11 := a11) (a12 := a12) (a13 := a13) ho hs src cone (by
    intro c hc hb h0 hn
    have c1 : ¬ c = row := fun q => hcr (by rw [← q]; exact hb)
    have c2 : ¬ c = col := fun q => hcc (by rw [← q]; exact hb)
    rw [pk_un c2, pk_un c1, h2 c hc hb h0]
    refine wf_E_c hs hc h0 (fun e he hbe => ?_)
    have he' : ¬ (e = row ∨ e = col) := fun q => hn e hbe ((hsrc e he).mpr q)
    rw [pk_un (fun q => he' (Or.inr q)), pk_un (fun q => he' (Or.inl q))])
  refine ⟨w, st, ⟨?_, ?_, fun c hc c1 c2 hq => ?_, s2⟩, fun post J H => ⟨2, ?_⟩⟩
  · rw [s1 row hrow (Or.inl hcr), pk_un hrc, pk_us]
  · rw [s1 col hcol (Or.inl hcc), pk_us]
  · rw [s1 c hc hq, pk_un c2, pk_un c1]
    exact h1 c hc c1 c2 hq
  · have e4 : nI i * 4 + nI 0 = nI (i * 4) := by
      rw [show (4 : Int32) = nI 4 from rfl, pk_mul, nI_add, Nat.add_zero]
    have e0 : (4 : Int32) + nI 0 = nI 4 := by decide
    refine pk_le 1 0 (fun z => absurd z (by omega)) (fun _ => ?_)
    rw [e0, nI_clamp (show i < 2 ^ 31 by omega), nI_clamp (show row < 2 ^ 31 by omega), nI_clamp (show 4 < 2 ^ 31 by omega), nI_clamp (show col < 2 ^ 31 by omega)]
    refine ⟨pk_in i 8 (by omega), pk_in row 16 hrow, nm_e ⟨pk_in 4 8 (by omega), pk_in col 16 hcol, nm_e (hw _ ?_)⟩⟩
    dsimp only
    rw [e4, nI_clamp (show out < 2 ^ 31 by omega), nI_clamp (show i * 4 < 2 ^ 31 by omega)]
    refine ⟨pk_in out 16 hout, pk_in (i * 4) 16 (by omega), nm_e (nm_r (nI_1 0) ?_)⟩
    exact pk_le 1 1 (fun _ => nm_r (nI_1 i) H) (fun z => absurd z (by omega))
theorem wf_table {f p : Nat → Nat} {out row col R : Nat} (ho : wf_ord a4 a6 f p) (hs : wf_shs a1 a2 a3 a4) (hcon : wf_con a1 a2 a3 a5) (hout : out < 16) (hrow : row < 16) (hcol : col < 16) (hrc : ¬ row = col) (hR : a10 0 = nI R) (hR4 : R ≤ 4) (hC : a10 1 = nI 1) :
    ∃ r : (Nat → Int32) × (Nat → Int32) × (Nat → Int32) × (Nat → Int32), ((∀ j, j < R → ∀ d, wf_res a1 a2 a3 a5 row col (a9 j) (a9 4) d → r.2.1 (j * 4) = d out) ∧ (∀ c, c < 16 → r.1 c = a5 c)) ∧
      ∀ post : Int32 → St1 → Prop, post (nI R) (ty, nI R, nI 1, a1, a2, a3, a4, r.1, a6, a7, a8, a9, upd (upd a10 0 0) 1 0, r.2.1, r.2.2.1, r.2.2.2) → wpX_table post (ty, ro, co, a1, a2, a3, a4, a5, a6, a7, a8, a9, a10, a11, a12, a13) (nI out) (nI row) (nI col) := by
  obtain ⟨A, ⟨hA1, hA2⟩, hAw⟩ := wf_above (ty := ty) (ro := nI R) (co := nI 1) (a1 := a1) (a2 := a2) (a3 := a3) (a5 := a5) (a7 := a7) (a8 := a8) (a9 := a9) (a10 := upd (upd a10 0 0) 1 0) (a11 := a11) (a12 := a12) (a13 := a13) ho (((1 : Int32) <<< (nI row &&& 31)) ||| ((1 : Int32) <<< (nI col &&& 31)))
  obtain ⟨B, ⟨hB1, hB2⟩, hBw⟩ := wf_below (ty := ty) (ro := nI R) (co := nI 1) (a1 := a1) (a2 := a2) (a3 := a3) (a5 := a5) (a7 := a7) (a8 := a8) (a9 := a9) (a10 := upd (upd a10 0 0) 1 0) (a11 := a11) (a12 := a12) (a13 := a13) ho hout
  obtain ⟨src, hsr⟩ : ∃ src, src = ((1 : Int32) <<< (nI row &&& 31)) ||| ((1 : Int32) <<< (nI col &&& 31)) := ⟨_, rfl⟩
  rw [← hsr] at hA1 hAw
  have hsrc : ∀ e, e < 32 → (bt src e = true ↔ e = row ∨ e = col) := by
    intro e he
    rw [hsr, wf_or1 hcol he, wf_one row hrow e he, decide_eq_true_iff]
  obtain ⟨cone, hcn⟩ : ∃ cone, cone = (A &&& B) &&& (src ^^^ (-1)) := ⟨_, rfl⟩
  have hcone : ∀ c, c < 16 → (bt cone c = true ↔ (bt A c = true ∧ bt B c = true) ∧ ¬ (c = row ∨ c = col)) := by
    intro c hc
    rw [hcn, wf_and, wf_and, wf_not (by omega)]
    constructor
    · exact fun h => ⟨h.1, fun q => wf_nf h.2 ((hsrc c (by omega)).mpr q)⟩
    · exact fun h => ⟨h.1, wf_f (fun q => h.2 ((hsrc c (by omega)).mp q))⟩
  have hcr : ¬ bt cone row = true := fun q => ((hcone row hrow).mp q).2 (Or.inl rfl)
  have hcc : ¬ bt cone col = true := fun q => ((hcone col hcol).mp q).2 (Or.inr rfl)
  have hAr : bt A row = true := hA1 row ((hsrc row (by omega)).mpr (Or.inl rfl))
  have hAc : bt A col = true := hA1 col ((hsrc col (by omega)).mpr (Or.inr rfl))
  obtain ⟨b, hb, hbw⟩ := wf_t93 (ty := ty) (ro := nI R) (co := nI 1) (a1 := a1) (a2 := a2) (a3 := a3) (a4 := a4) (a5 := a5) (a6 := a6) (a7 := a7) (a8 := a8) (a9 := a9) (a10 := upd (upd a10 0 0) 1 0) (a11 := a11) (a12 := a12) (a13 := a13) (x1 := nI out) (x2 := nI row) (x3 := nI col) (x4 := src) (x5 := cone)
  have key : ∃ r : (Nat → Int32) × (Nat → Int32) × (Nat → Int32) × (Nat → Int32), ((∀ j, j < R → ∀ d, wf_res a1 a2 a3 a5 row col (a9 j) (a9 4) d → r.2.1 (j * 4) = d out) ∧ (∀ c, c < 16 → r.1 c = a5 c)) ∧
      ∀ post : Int32 → St1 → Prop, post (nI R) (ty, nI R, nI 1, a1, a2, a3, a4, r.1, a6, a7, a8, a9, upd (upd a10 0 0) 1 0, r.2.1, r.2.2.1, r.2.2.2) → ∃ n, wX_table_123 post (nI out) (nI row) (nI col) src cone n (nI 0) ty (nI R) (nI 1) a1 a2 a3 a4 a5 a6 a7 a8 a9 (upd (upd a10 0 0) 1 0) a11 b a13 := by
    refine wf_lp (P := Int32 → St1 → Prop) (σ := (Nat → Int32) × (Nat → Int32) × (Nat → Int32)) (R := (Nat → Int32) × (Nat → Int32) × (Nat → Int32) × (Nat → Int32))
      (fun post r => post (nI R) (ty, nI R, nI 1, a1, a2, a3, a4, r.1, a6, a7, a8, a9, upd (upd a10 0 0) 1 0, r.2.1, r.2.2.1, r.2.2.2))
      (fun post n i s => wX_table_123 post (nI out) (nI row) (nI col) src cone n (nI i) ty (nI R) (nI 1) a1 a2 a3 a4 s.1 a6 a7 a8 a9 (upd (upd a10 0 0) 1 0) s.2.1 b s.2.2)
      (fun i s => (∀ j, j < i → ∀ d, wf_res a1 a2 a3 a5 row col (a9 j) (a9 4) d → s.2.1 (j * 4) = d out) ∧ (∀ c, c < 16 → ¬ c = row → ¬ c = col → (¬ bt cone c = true ∨ a1 c = 0) → s.1 c = a5 c) ∧ (∀ c, c < 16 → bt cone c = true → ¬ a1 c = 0 → s.1 c = wf_E a1 a2 a3 c s.1))
      _ R ?_ ?_ R 0 (a5, a11, a13) (by omega) ⟨fun j h => absurd h (by omega), fun _ _ _ _ _ => rfl, fun c hc _ h0 => hcon c hc h0⟩
    · rintro ⟨w, en, st⟩ ⟨h1, h2, h3⟩
      dsimp only at h1 h2 h3
      obtain ⟨w', hw', hww⟩ := wf_t214 (ty := ty) (ro := nI R) (co := nI 1) (a1 := a1) (a2 := a2) (a3 := a3) (a4 := a4) (a5 := w) (a6 := a6) (a7 := a7) (a8 := a8) (a9 := a9) (a10 := upd (upd a10 0 0) 1 0) (a11 := en) (a12 := b) (a13 := st)
      refine ⟨(w', en, b, st), ⟨h1, fun c hc => (hw' c hc).trans (hb c hc)⟩, fun post hp => ⟨1, pk_le R R (fun _ => hww post ?_) (fun z => absurd z (by omega))⟩⟩
      rw [pk_mul, Nat.mul_one]
      exact hp
    · rintro i ⟨w, en, st⟩ hi ⟨h1, h2, h3⟩
      dsimp only at h1 h2 h3
      obtain ⟨w', st', ⟨g1, g2, g3, g4⟩, hww⟩ := wf_t135 (ty := ty) (ro := nI R) (co := nI 1) (a5 := w) (a7 := a7) (a8 := a8) (a9 := a9) (a10 := upd (upd a10 0 0) 1 0) (a11 := en) (a12 := b) (a13 := st) (i := i) ho hs hout hrow hcol hrc (by omega) (fun e he => hsrc e (by omega)) hcr hcc rfl h2 h3
      refine ⟨(w', upd en (i * 4) (w' out), st'), ⟨fun j hj d hd => ?_, g3, g4⟩, fun post n H => pk_le R i (fun z => absurd z (by omega)) (fun _ => hww post _ H)⟩
      dsimp only
      by_cases q : j = i
      · rw [q] at hd
        rw [q, pk_us]
        refine wf_uniq ho hs hcon hout hAr hAc hA2 hB1 hB2 g1 g2 (fun c hc c1 c2 hq => g3 c hc c1 c2 ?_) (fun c hc c1 c2 hq h0 => g4 c hc ((hcone c hc).mpr ⟨hq, fun z => z.elim c1 c2⟩) h0) hd
        rcases hq with hq | hq
        · exact Or.inl (fun z => hq ((hcone c hc).mp z).1)
        · exact Or.inr hq
      · rw [pk_un (by omega)]
        exact h1 j (by omega) d hd
  obtain ⟨r, hr, hrw⟩ := key
  refine ⟨r, hr, fun post hp => ?_⟩
  unfold wpX_table
  refine wf_off hout (br_t rfl (wf_off hrow (br_t rfl (wf_off hcol (br_t rfl (br_f (fun q => hrc ((nI_eq (by omega) (by omega)).mp q)) ?_))))))
  refine nm_r hR (nm_r hC (nm_e (nm_e (nm_r hsr.symm (hAw _ (hBw _ (nm_r hcn.symm ?_)))))))
  exact hbw post (hrw post hp)
end
end
section
/-! ===== the law ===== -/
section
variable {ty ro co : Int32} {a1 a2 a3 a4 a5 a6 a7 a8 a9 a10 a11 a12 a13 : Nat → Int32}
theorem wf_cell {L : Nat} {xs : Nat → Int32} (hL : L ≤ 260) (k : Nat) (hk : k < 5) : ∃ v, ∀ post : Int32 → Prop, post v → wpL_cell post L xs () (nI k) := by
  by_cases h : L ≤ k
  · exact ⟨0, fun post hp => pk_le L k (fun _ => hp) (fun z => absurd z (by omega))⟩
  · refine ⟨xs k, fun post hp => pk_le L k (fun z => absurd z (by omega)) (fun _ => ⟨pk_in k L (by omega), ?_⟩)⟩
    rw [nI_clamp (by omega)]
    exact hp
theorem wf_col {row : Nat} {v : Int32} (hrow : row < 16) : ∃ col, col < 16 ∧ ¬ row = col ∧ (nI row + 1 + ((v &&& 2147483647) - (v &&& 2147483647) / 15 * 15)) &&& 15 = nI col := by
  obtain ⟨m, hm, em⟩ := pk_andE v (m := 2147483647) 31 (by decide)
  refine ⟨(row + 1 + m % 15) % 2 ^ 4, by omega, by omega, ?_⟩
  rw [em, show (15 : Int32) = nI 15 from rfl, pk_rem hm (by omega) (by omega), nI_1, nI_add]
  exact pk_andN (by omega) 4 (by decide)
/-- two numbers, one behind the other, and a third at the first cell: what the sheet answers -/
theorem wf_res2 {w g1 g2 : Nat → Int32} {row col : Nat} {P Q : Int32} (hrc : ¬ row = col) (hrow : row < 16) (hw : ∀ c, c < 16 → w c = a5 c)
    (n1 : wf_num a1 a2 a3 a5 g1 row P) (n2 : wf_num (upd a1 row 0) a2 a3 g1 g2 col Q) : wf_res a1 a2 a3 w row col P Q g2 := by
  refine ⟨?_, n2.1, fun c hc c1 c2 h0 => ?_, fun c hc c1 c2 h0 => ?_⟩
  · rw [n2.2.1 row hrow hrc pk_us]
    exact n1.1
  · rw [n2.2.1 c hc c2 (by rw [pk_un c1]; exact h0), n1.2.1 c hc c1 h0, hw c hc]
  · rw [n2.2.2 c hc c2 (by rw [pk_un c1]; exact h0), wf_E_u c1]
theorem wf_res3 {w g2 g3 : Nat → Int32} {row col : Nat} {P Q P' : Int32} (hrc : ¬ row = col) (hcol : col < 16) (h : wf_res a1 a2 a3 w row col P Q g2)
    (n3 : wf_num (upd (upd a1 row 0) col 0) a2 a3 g2 g3 row P') : wf_res a1 a2 a3 w row col P' Q g3 := by
  refine ⟨n3.1, ?_, fun c hc c1 c2 h0 => ?_, fun c hc c1 c2 h0 => ?_⟩
  · rw [n3.2.1 col hcol (fun q => hrc q.symm) pk_us]
    exact h.2.1
  · rw [n3.2.1 c hc c1 (by rw [pk_un c2, pk_un c1]; exact h0), h.2.2.1 c hc c1 c2 h0]
  · rw [n3.2.2 c hc c1 (by rw [pk_un c2, pk_un c1]; exact h0), wf_E_u c2, wf_E_u c1]
theorem wf_con_w {w : Nat → Int32} (hs : wf_shs a1 a2 a3 a4) (hc : wf_con a1 a2 a3 a5) (hw : ∀ c, c < 16 → w c = a5 c) : wf_con a1 a2 a3 w := by
  intro c h16 h0
  rw [hw c h16, hc c h16 h0]
  exact wf_E_c hs h16 h0 (fun e he _ => (hw e he).symm)
theorem wf_tail {L : Nat} {xs : Nat → Int32} {kc ks n : Nat} {x3 : Int32} (hL : L ≤ 260) (hI : wf_Inv (ty, ro, co, a1, a2, a3, a4, a5, a6, a7, a8, a9, a10, a11, a12, a13)) (hx3 : Int32.ofNat L ≤ x3 + 2) : wL_law_18 (fun r => r = 1) L xs kc ks (n + 1) x3 ty ro co a1 a2 a3 a4 a5 a6 a7 a8 a9 a10 a11 a12 a13 ty ro co a1 a2 a3 a4 a5 a6 a7 a8 a9 a10 a11 a12 a13 := by
  obtain ⟨v0, c0⟩ := wf_cell (xs := xs) hL 0 (by omega)
  obtain ⟨v1, c1⟩ := wf_cell (xs := xs) hL 1 (by omega)
  obtain ⟨v2, c2⟩ := wf_cell (xs := xs) hL 2 (by omega)
  obtain ⟨v3, c3⟩ := wf_cell (xs := xs) hL 3 (by omega)
  obtain ⟨v4, c4⟩ := wf_cell (xs := xs) hL 4 (by omega)
  obtain ⟨out, hout, eo⟩ := pk_andE v0 (m := 15) 4 (by decide)
  obtain ⟨row, hrow, er⟩ := pk_andE v1 (m := 15) 4 (by decide)
  obtain ⟨col, hcol, hrc, ec⟩ := wf_col (v := v2) hrow
  obtain ⟨⟨f, p, ho⟩, hs, hcon, h10, h11⟩ := hI
  obtain ⟨⟨w1, e1, b1, s1⟩, ⟨t1, t1'⟩, tw1⟩ := wf_table (ty := ty) (ro := ro) (co := co) (a7 := a7) (a8 := a8) (a9 := upd (upd a9 0 (a5 row)) (4 + 0) (a5 col)) (a10 := upd (upd a10 0 (nI (0 + 1))) 1 (nI (0 + 1))) (a11 := a11) (a12 := a12) (a13 := a13) (R := 1) ho hs hcon hout hrow hcol hrc rfl (by omega) rfl
  dsimp only at t1 t1' tw1
  have hcon1 := wf_con_w hs hcon t1'
  have q1 : e1 (0 * 4) = w1 out := by
    rw [t1 0 (by omega) a5 ⟨rfl, rfl, fun c _ _ _ _ => rfl, fun c hc _ _ h0 => hcon c hc h0⟩, t1' out hout]
  obtain ⟨⟨w2, e2, b2, s2⟩, ⟨t2, t2'⟩, tw2⟩ := wf_table (ty := ty) (ro := nI 1) (co := nI 1) (a7 := a7) (a8 := a8) (a9 := upd (upd (upd (upd (upd a9 0 (a5 row)) (4 + 0) (a5 col)) 0 v3) 1 v4) (4 + 0) v4) (a10 := upd (upd (upd (upd (upd (upd (upd a10 0 (nI (0 + 1))) 1 (nI (0 + 1))) 0 0) 1 0) 0 (nI (0 + 1))) 0 (nI (1 + 1))) 1 (nI (0 + 1))) (a11 := e1) (a12 := b1) (a13 := s1) (R := 2) ho hs hcon1 hout hrow hcol hrc rfl (by omega) rfl
  dsimp only at t2 t2' tw2
  obtain ⟨r1, g1, y1, n1, nw1⟩ := wf_number (ty := ty) (ro := ro) (co := co) (a7 := a7) (a8 := a8) (a9 := a9) (a10 := a10) (a11 := a11) (a12 := a12) (a13 := a13) ho hs hcon hrow v3
  obtain ⟨r2, g2, y2, n2, nw2⟩ := wf_number (ty := ty) (ro := ro) (co := co) (a7 := a7) (a8 := a8) (a9 := a9) (a10 := a10) (a11 := a11) (a12 := a12) (a13 := y1) (wf_ord_u (x := row) ho) (wf_shs_u (x := row) hs) (wf_con_num n1) hcol v4
  obtain ⟨r3, g3, y3, n3, nw3⟩ := wf_number (ty := ty) (ro := ro) (co := co) (a7 := a7) (a8 := a8) (a9 := a9) (a10 := a10) (a11 := a11) (a12 := a12) (a13 := y2) (wf_ord_u (x := col) (wf_ord_u (x := row) ho)) (wf_shs_u (x := col) (wf_shs_u (x := row) hs)) (wf_con_num n2) hrow v4
  have R2 := wf_res2 hrc hrow t1' n1 n2
  have R3 := wf_res3 hrc hcol R2 n3
  have q2 : e2 (0 * 4) = g2 out := t2 0 (by omega) g2 R2
  have q3 : e2 (1 * 4) = g3 out := t2 1 (by omega) g3 R3
  refine br_t hx3 (c0 _ (nm_r eo (c1 _ (nm_r er (c2 _ ⟨by decide, nm_r ec ?_⟩)))))
  refine wf_value hrow (wf_value hcol ?_)
  refine wf_inT (n := 0) (by omega) h10 ?_
  refine wf_inF (n := 0) (by omega) h11 ?_
  refine tw1 _ ?_
  refine br_t rfl (wf_entry (i := 0) (j := 0) (R := 1) (C := 1) rfl rfl (by omega) (by omega) (by omega) (by omega) (wf_value hout (br_t q1 ?_)))
  refine wf_same (fun _ _ => rfl) t1' (br_f (by decide) (c3 _ (c4 _ ?_)))
  refine wf_inT (n := 0) (by omega) rfl ?_
  refine wf_inT (n := 1) (by omega) rfl ?_
  refine wf_inF (n := 0) (by omega) rfl ?_
  refine tw2 _ ?_
  refine br_t rfl (wf_same (fun _ _ => rfl) (fun c hc => (t2' c hc).trans (t1' c hc)) (br_f (by decide) ?_))
  refine nw1 _ (nw2 _ (wf_value hout ?_))
  refine wf_entry (i := 0) (j := 0) (R := 2) (C := 1) rfl rfl (by omega) (by omega) (by omega) (by omega) (br_t q2.symm ?_)
  refine nw3 _ (wf_value hout ?_)
  refine wf_entry (i := 1) (j := 0) (R := 2) (C := 1) rfl rfl (by omega) (by omega) (by omega) (by omega) (br_t q3.symm ?_)
  exact wf_entry0 (i := 0) (j := 1) (R := 2) (C := 1) rfl rfl (by omega) (by omega) (by omega) (by omega) (br_t rfl rfl)
theorem wf_loop {L : Nat} {xs : Nat → Int32} {kc ks : Nat} (hL : L ≤ 260) : ∀ (d i : Nat) (ty ro co : Int32) (a1 a2 a3 a4 a5 a6 a7 a8 a9 a10 a11 a12 a13 : Nat → Int32), L ≤ i + d → i ≤ 300 → wf_Inv (ty, ro, co, a1, a2, a3, a4, a5, a6, a7, a8, a9, a10, a11, a12, a13) →
    ∃ n, wL_law_18 (fun r => r = 1) L xs kc ks n (nI i) ty ro co a1 a2 a3 a4 a5 a6 a7 a8 a9 a10 a11 a12 a13 ty ro co a1 a2 a3 a4 a5 a6 a7 a8 a9 a10 a11 a12 a13 := by
  intro d
  induction d with
  | zero =>
    intro i ty ro co a1 a2 a3 a4 a5 a6 a7 a8 a9 a10 a11 a12 a13 h1 h2 hI
    have e2 : nI i + 2 = nI (i + 2) := nI_add i 2
    refine ⟨1, wf_tail hL hI ?_⟩
    rw [e2]
    exact nI_le (by omega) (by omega)
  | succ d ih =>
    intro i ty ro co a1 a2 a3 a4 a5 a6 a7 a8 a9 a10 a11 a12 a13 h1 h2 hI
    have e1 : nI i + 1 = nI (i + 1) := nI_1 i
    have e2 : nI i + 2 = nI (i + 2) := nI_add i 2
    have e3 : nI i + 3 = nI (i + 3) := nI_add i 3
    by_cases hl : L ≤ i + 2
    · refine ⟨1, wf_tail hL hI ?_⟩
      rw [e2]
      exact nI_le hl (by omega)
    · obtain ⟨kd, hk, ek⟩ := pk_andE (xs i) (m := 15) 4 (by decide)
      obtain ⟨x, hx, ex⟩ := pk_andE (xs (i + 1)) (m := 15) 4 (by decide)
      obtain ⟨y, hy, ey⟩ := pk_andE (xs (i + 1) >>> ((4 : Int32) &&& 31)) (m := 15) 4 (by decide)
      have step : ∀ v, ∃ n, wL_law_81 (fun r => r = 1) L xs (wL_law_18 (fun r => r = 1) L xs kc ks n) (nI i) (nI kd) (nI x) (nI y) v kc ks ty ro co a1 a2 a3 a4 a5 a6 a7 a8 a9 a10 a11 a12 a13 ty ro co a1 a2 a3 a4 a5 a6 a7 a8 a9 a10 a11 a12 a13 := by
        intro v
        obtain ⟨⟨b0, b1, b2, b3, b4, b5, b6, b7, b8, b9, b10, b11, b12, b13, b14, b15⟩, hu, hw⟩ := wf_fill (v := v) hk hx hy hI
        obtain ⟨n, hn⟩ := ih (i + 3) b0 b1 b2 b3 b4 b5 b6 b7 b8 b9 b10 b11 b12 b13 b14 b15 (by omega) (by omega) hu
        refine ⟨n, ?_⟩
        unfold wL_law_81
        exact hw _ (hw _ (nm_r e3 hn))
      by_cases hz : xs i &&& 16 = 0
      · obtain ⟨n, hn⟩ := step (xs (i + 2) &&& 15)
        refine ⟨n + 1, pk_le L (i + 2) (fun z => absurd z hl) (fun _ => ?_) rfl e2⟩
        rw [e1, e2, nI_clamp (show i < 2 ^ 31 by omega), nI_clamp (show i + 1 < 2 ^ 31 by omega), nI_clamp (show i + 2 < 2 ^ 31 by omega)]
        exact ⟨pk_in i L (by omega), nm_r ek ⟨pk_in (i + 1) L (by omega), nm_r ex ⟨pk_in (i + 1) L (by omega), nm_r ey ⟨pk_in i L (by omega), br_t hz ⟨pk_in (i + 2) L (by omega), hn⟩⟩⟩⟩⟩
      · obtain ⟨n, hn⟩ := step (xs (i + 2))
        refine ⟨n + 1, pk_le L (i + 2) (fun z => absurd z hl) (fun _ => ?_) rfl e2⟩
        rw [e1, e2, nI_clamp (show i < 2 ^ 31 by omega), nI_clamp (show i + 1 < 2 ^ 31 by omega), nI_clamp (show i + 2 < 2 ^ 31 by omega)]
        exact ⟨pk_in i L (by omega), nm_r ek ⟨pk_in (i + 1) L (by omega), nm_r ex ⟨pk_in (i + 1) L (by omega), nm_r ey ⟨pk_in i L (by omega), br_f hz ⟨pk_in (i + 2) L (by omega), hn⟩⟩⟩⟩⟩
end
end
section
theorem wf_Inv0 {o : Nat → Int32} (h : ∀ j, j < 16 → o j = nI j) : wf_Inv (0, 0, 0, (fun _ => 0), (fun _ => 0), (fun _ => 0), (fun _ => 0), (fun _ => 0), o, (fun _ => 0), (fun _ => 0), (fun _ => 0), (fun _ => 0), (fun _ => 0), (fun _ => 0), (fun _ => 0)) :=
  ⟨⟨fun c => c, fun c => c, fun i hi => ⟨hi, h i hi, rfl⟩, fun c hc => ⟨hc, rfl⟩, fun c _ e he => absurd he (by rw [b_0]; decide)⟩, fun c _ => Or.inl rfl, fun c _ h0 => absurd rfl h0, rfl, rfl⟩
theorem i_vc (xs : Nat → Int32) (L : Nat) (hL : L ≤ 260) : wpL_law (fun r => r = 1) L xs := by
  obtain ⟨o, ho, hw⟩ := wf_init
  refine ⟨13, 387, by decide, by decide, hw _ ?_⟩
  refine ⟨by decide, by decide, 13, 387, by decide, by decide, hw _ ?_⟩
  exact wf_loop hL 260 5 0 0 0 _ _ _ _ _ _ _ _ _ _ _ _ _ (by omega) (by omega) (wf_Inv0 ho)
end
