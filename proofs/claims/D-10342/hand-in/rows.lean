section
/-! booleans, shorts, places in range -/
def pm_b (f : Nat → Int32) : Prop := ∀ i, f i = 0 ∨ f i = 1
def pm_s (f : Nat → Int32) : Prop := ∀ i, vp_nar .short (f i) = f i
def pm_r (f : Nat → Int32) : Prop := ∀ i, ∃ k, k < 14 ∧ f i = nI k
theorem pm_nb {x : Int32} (h : x = 0 ∨ x = 1) : narrow .boolean (.int x) = .int x := by
  rcases h with h | h <;> subst h <;> rfl
theorem pm_vb {x : Int32} (h : x = 0 ∨ x = 1) : vp_nar .boolean x = x := by
  rcases h with h | h <;> subst h <;> rfl
theorem pm_or {x y : Int32} (h : x = 0 ∨ x = 1) (g : y = 0 ∨ y = 1) : vp_nar .boolean (x ||| y) = 0 ∨ vp_nar .boolean (x ||| y) = 1 := by
  rcases h with h | h <;> rcases g with g | g <;> subst h <;> subst g
  · exact Or.inl rfl
  · exact Or.inr rfl
  · exact Or.inr rfl
  · exact Or.inr rfl
theorem pm_and {x y : Int32} (h : x = 0 ∨ x = 1) (g : y = 0 ∨ y = 1) : vp_nar .boolean (x &&& y) = 0 ∨ vp_nar .boolean (x &&& y) = 1 := by
  rcases h with h | h <;> rcases g with g | g <;> subst h <;> subst g
  · exact Or.inl rfl
  · exact Or.inl rfl
  · exact Or.inl rfl
  · exact Or.inr rfl
theorem pm_bu {f : Nat → Int32} {k : Nat} {x : Int32} (h : pm_b f) (hx : x = 0 ∨ x = 1) : pm_b (upd f k x) := by
  intro i
  by_cases e : i = k
  · rw [e, pk_us]; exact hx
  · rw [pk_un e]; exact h i
theorem pm_su {f : Nat → Int32} {k : Nat} {x : Int32} (h : pm_s f) (hx : vp_nar .short x = x) : pm_s (upd f k x) := by
  intro i
  by_cases e : i = k
  · rw [e, pk_us]; exact hx
  · rw [pk_un e]; exact h i
theorem pm_ru {f : Nat → Int32} {k m : Nat} (h : pm_r f) (hm : m < 14) : pm_r (upd f k (nI m)) := by
  intro i
  by_cases e : i = k
  · rw [e, pk_us]; exact ⟨m, hm, rfl⟩
  · rw [pk_un e]; exact h i
/-! an array filled from below -/
def pm_fl (g f : Nat → Int32) (k : Nat) : Nat → Int32 := fun i => if i < k then g i else f i
theorem pm_fl_0 (g f : Nat → Int32) : pm_fl g f 0 = f := by
  funext i
  exact if_neg (Nat.not_lt_zero i)
theorem pm_fl_s (g f : Nat → Int32) (k : Nat) : upd (pm_fl g f k) k (g k) = pm_fl g f (k + 1) := by
  funext i
  by_cases e : i = k
  · rw [e, pk_us]; exact (if_pos (Nat.lt_succ_self k)).symm
  · rw [pk_un e]
    by_cases h : i < k
    · exact (if_pos h).trans (if_pos (Nat.lt_succ_of_lt h)).symm
    · exact (if_neg h).trans (if_neg (by omega)).symm
theorem pm_fl_lo {g f : Nat → Int32} {k i : Nat} (h : i < k) : pm_fl g f k i = g i := if_pos h
theorem pm_fl_hi {g f : Nat → Int32} {k i : Nat} (h : k ≤ i) : pm_fl g f k i = f i := if_neg (by omega)
theorem pm_fl_at (g f : Nat → Int32) (k : Nat) : pm_fl g f k k = f k := pm_fl_hi (Nat.le_refl k)
theorem pm_fl_i (g f : Nat → Int32) (k : Nat) : pm_fl g (pm_fl g f k) k = pm_fl g f k := by
  funext i
  by_cases h : i < k
  · rw [pm_fl_lo h, pm_fl_lo h]
  · rw [pm_fl_hi (Nat.le_of_not_lt h)]
theorem pm_fl_b {g f : Nat → Int32} {k : Nat} (hg : pm_b g) (hf : pm_b f) : pm_b (pm_fl g f k) := by
  intro i
  by_cases h : i < k
  · rw [pm_fl_lo h]; exact hg i
  · rw [pm_fl_hi (Nat.le_of_not_lt h)]; exact hf i
theorem pm_fl_sh {g f : Nat → Int32} {k : Nat} (hg : pm_s g) (hf : pm_s f) : pm_s (pm_fl g f k) := by
  intro i
  by_cases h : i < k
  · rw [pm_fl_lo h]; exact hg i
  · rw [pm_fl_hi (Nat.le_of_not_lt h)]; exact hf i
/-- a fill out of a copy brings back what was -/
theorem pm_back {g f h : Nat → Int32} {k : Nat} (hl : ∀ i, i < k → g i = h i) (hh : ∀ i, k ≤ i → f i = h i) : pm_fl g f k = h := by
  funext i
  by_cases e : i < k
  · rw [pm_fl_lo e]; exact hl i e
  · rw [pm_fl_hi (Nat.le_of_not_lt e)]; exact hh i (Nat.le_of_not_lt e)
/-! one bit of an array of longs (pm_tb is ts_bit of BITS.to-paste) -/
theorem pm_tb {w : Int64} {s : UInt64} {j : Nat} (hj : j < 64) (hs : s.toNat = j) : ((w.toUInt64 >>> s).toInt64 &&& 1) = 0 ↔ w.toBitVec.getLsbD j = false := by
  have e : (w.toUInt64 >>> s).toInt64.toBitVec = w.toBitVec >>> j := by
    apply BitVec.eq_of_toNat_eq
    show (w.toUInt64 >>> s).toNat = _
    rw [UInt64.toNat_shiftRight, hs, Nat.mod_eq_of_lt hj, BitVec.toNat_ushiftRight]
    rfl
  rw [← Int64.toBitVec_inj, Int64.toBitVec_and, e]
  show w.toBitVec >>> j &&& 1#64 = 0#64 ↔ _
  constructor
  · intro h
    have t := congrArg (fun x => x.getLsbD 0) h
    simpa using t
  · intro h
    apply BitVec.eq_of_getLsbD_eq
    intro i hi
    cases i with
    | zero => simp [h]
    | succ i => simp
theorem pm_cu : ∀ k, k < 64 → ((nI k).toInt64.toUInt64 &&& Int64.toUInt64 63).toNat = k := by decide +kernel
theorem pm_p64 : ∀ k, k < 64 → ((1 : Int64) <<< ((nI k).toInt64 &&& 63)).toBitVec = BitVec.twoPow 64 k := by decide +kernel
def pm_bit (j : Nat) : Int64 := (1 : Int64) <<< ((nI j &&& 63).toInt64 &&& 63)
def pm_get (a6 : Nat → Int64) (j : Nat) : Int64 := ((((a6 (j / 64)).toUInt64 >>> ((nI j &&& 63).toInt64.toUInt64 &&& Int64.toUInt64 63)).toInt64) &&& 1)
def pm_put (a6 : Nat → Int64) (j : Nat) (r : Int32) : Nat → Int64 := vp_updL a6 (j / 64) (if r = 0 then (a6 (j / 64)) &&& (pm_bit j ^^^ (-1)) else (a6 (j / 64)) ||| pm_bit j)
theorem pm_63 {j : Nat} (hj : j < 200) : nI j &&& 63 = nI (j % 64) := pk_andN (by omega) 6 (by decide)
theorem pm_sh6 {j : Nat} (hj : j < 200) : nI j >>> ((6 : Int32) &&& 31) = nI (j / 64) := pk_shrN (by omega) _ 6 (by decide)
theorem pm_getp {a6 : Nat → Int64} {j : Nat} {r : Int32} (hj : j < 200) : pm_get (pm_put a6 j r) j = 0 ↔ r = 0 := by
  have hm : j % 64 < 64 := Nat.mod_lt _ (by decide)
  have hb : (pm_bit j).toBitVec = BitVec.twoPow 64 (j % 64) := by
    unfold pm_bit
    rw [pm_63 hj]
    exact pm_p64 _ hm
  unfold pm_get
  rw [pm_63 hj, pm_tb hm (pm_cu _ hm)]
  unfold pm_put
  rw [pk_uLs]
  by_cases h : r = 0
  · rw [if_pos h]
    have ha : (-1 : Int64).toBitVec = BitVec.allOnes 64 := by decide
    rw [Int64.toBitVec_and, Int64.toBitVec_xor, hb, ha, BitVec.getLsbD_and, BitVec.getLsbD_xor, BitVec.getLsbD_twoPow, BitVec.getLsbD_allOnes]
    simp [h, hm]
  · rw [if_neg h]
    rw [Int64.toBitVec_or, hb, BitVec.getLsbD_or, BitVec.getLsbD_twoPow]
    simp [h, hm]
end
section
/-! complete(): the stack of parts that still want something, and the writes to 'second' -/
def pm_wn (x : Int32) : Nat := if x = 5 then 2 else if x = 6 then 2 else if x = 10 then 2 else if 4 ≤ x then 1 else 0
theorem pm_wn_c (x : Int32) : pm_wn x = 0 ∨ pm_wn x = 1 ∨ pm_wn x = 2 := by
  unfold pm_wn
  split
  · exact Or.inr (Or.inr rfl)
  · split
    · exact Or.inr (Or.inr rfl)
    · split
      · exact Or.inr (Or.inr rfl)
      · split
        · exact Or.inr (Or.inl rfl)
        · exact Or.inl rfl
theorem pm_wn_0 {x : Int32} (h : pm_wn x = 0) : ¬ 4 ≤ x := by
  unfold pm_wn at h
  split at h
  · exact absurd h (by decide)
  · split at h
    · exact absurd h (by decide)
    · split at h
      · exact absurd h (by decide)
      · split at h
        · exact absurd h (by decide)
        · assumption
theorem pm_wants {post : Int32 → Prop} {x : Int32} (H : post (nI (pm_wn x))) : wpX_wants post () x := by
  unfold wpX_wants
  unfold pm_wn at H
  refine br_c (fun h => ?_) (fun h => ?_)
  · rw [if_pos h] at H; exact H
  · rw [if_neg h] at H
    refine br_c (fun h => ?_) (fun h => ?_)
    · rw [if_pos h] at H; exact H
    · rw [if_neg h] at H
      refine br_c (fun h => ?_) (fun h => ?_)
      · rw [if_pos h] at H; exact H
      · rw [if_neg h] at H
        refine br_c (fun h => ?_) (fun h => ?_)
        · rw [if_pos h] at H; exact H
        · rw [if_neg h] at H; exact H
def pm_at (st : List (Nat × Nat)) : List (Nat × Nat) := match st with
  | [] => []
  | (p, w) :: r => if w = 1 then r else (p, w - 1) :: r
def pm_push (T : Nat → Int32) (k : Nat) (st : List (Nat × Nat)) : List (Nat × Nat) := if pm_wn (T k) = 0 then st else (k, pm_wn (T k)) :: st
def pm_st (T : Nat → Int32) : Nat → List (Nat × Nat)
  | 0 => []
  | k + 1 => pm_push T k (pm_at (pm_st T k))
def pm_w1 (k : Nat) (st : List (Nat × Nat)) (S : Nat → Int32) : Nat → Int32 := match st with
  | [] => S
  | (p, _) :: _ => if k = p + 1 then S else upd S p (nI k)
def pm_sec (T S : Nat → Int32) : Nat → Nat → Int32
  | 0 => S
  | k + 1 => pm_w1 k (pm_st T k) (pm_sec T S k)
/-- the whole formula stands -/
def pm_ok (T : Nat → Int32) (n : Nat) : Prop := 0 < n ∧ pm_st T n = []
theorem pm_ok_last {T : Nat → Int32} {n : Nat} (h : pm_ok T n) : ¬ 4 ≤ T (n - 1) := by
  obtain ⟨h0, h1⟩ := h
  obtain ⟨m, rfl⟩ : ∃ m, n = m + 1 := ⟨n - 1, by omega⟩
  apply pm_wn_0
  have h2 : pm_push T m (pm_at (pm_st T m)) = [] := h1
  unfold pm_push at h2
  by_cases e : pm_wn (T m) = 0
  · exact e
  · rw [if_neg e] at h2
    exact absurd h2 (by simp)
/-- the stack's places: below k, each wants one or two -/
def pm_good (k : Nat) (st : List (Nat × Nat)) : Prop := st.length ≤ k ∧ ∀ q, q ∈ st → q.1 < k ∧ (q.2 = 1 ∨ q.2 = 2)
theorem pm_good_at {k : Nat} {st : List (Nat × Nat)} (h : pm_good k st) : pm_good k (pm_at st) := by
  cases st with
  | nil => exact h
  | cons q r =>
    obtain ⟨p, w⟩ := q
    obtain ⟨h1, h2⟩ := h
    have h1' : r.length + 1 ≤ k := h1
    show pm_good k (if w = 1 then r else (p, w - 1) :: r)
    by_cases e : w = 1
    · rw [if_pos e]
      exact ⟨by omega, fun q hq => h2 q (List.mem_cons_of_mem _ hq)⟩
    · rw [if_neg e]
      refine ⟨h1, fun q hq => ?_⟩
      rcases List.mem_cons.mp hq with hq | hq
      · have t := h2 (p, w) (List.mem_cons_self ..)
        have t2 : w = 1 ∨ w = 2 := t.2
        subst hq
        exact ⟨t.1, Or.inl (show w - 1 = 1 by omega)⟩
      · exact h2 q (List.mem_cons_of_mem _ hq)
theorem pm_good_push {T : Nat → Int32} {k : Nat} {st : List (Nat × Nat)} (h : pm_good k st) : pm_good (k + 1) (pm_push T k st) := by
  obtain ⟨h1, h2⟩ := h
  unfold pm_push
  by_cases e : pm_wn (T k) = 0
  · rw [if_pos e]
    exact ⟨by omega, fun q hq => ⟨Nat.lt_succ_of_lt (h2 q hq).1, (h2 q hq).2⟩⟩
  · rw [if_neg e]
    refine ⟨Nat.succ_le_succ h1, fun q hq => ?_⟩
    rcases List.mem_cons.mp hq with hq | hq
    · subst hq
      rcases pm_wn_c (T k) with t | t | t
      · exact absurd t e
      · exact ⟨Nat.lt_succ_self k, Or.inl t⟩
      · exact ⟨Nat.lt_succ_self k, Or.inr t⟩
    · exact ⟨Nat.lt_succ_of_lt (h2 q hq).1, (h2 q hq).2⟩
theorem pm_good_st (T : Nat → Int32) : ∀ k, pm_good k (pm_st T k)
  | 0 => ⟨Nat.le_refl 0, fun q hq => absurd hq (by simp [pm_st])⟩
  | k + 1 => pm_good_push (pm_good_at (pm_good_st T k))
theorem pm_sec_r {T S : Nat → Int32} (h : pm_r S) : ∀ n, n ≤ 14 → pm_r (pm_sec T S n)
  | 0, _ => h
  | n + 1, hn => by
    have ih := pm_sec_r (T := T) h n (by omega)
    show pm_r (pm_w1 n (pm_st T n) (pm_sec T S n))
    unfold pm_w1
    split
    · exact ih
    · split
      · exact ih
      · exact pm_ru ih (by omega)
/-- a place is left alone, or written without a look at what was there -/
theorem pm_sec_c (T : Nat → Int32) (j : Nat) : ∀ n, (∀ S, pm_sec T S n j = S j) ∨ (∃ v, ∀ S, pm_sec T S n j = v)
  | 0 => Or.inl (fun _ => rfl)
  | n + 1 => by
    have ih := pm_sec_c T j n
    have key : (∀ S, pm_sec T S (n + 1) j = pm_sec T S n j) ∨ (∃ v, ∀ S, pm_sec T S (n + 1) j = v) := by
      show (∀ S, pm_w1 n (pm_st T n) (pm_sec T S n) j = pm_sec T S n j) ∨ (∃ v, ∀ S, pm_w1 n (pm_st T n) (pm_sec T S n) j = v)
      cases hs : pm_st T n with
      | nil => exact Or.inl (fun _ => rfl)
      | cons q r =>
        obtain ⟨p, w⟩ := q
        by_cases e : n = p + 1
        · exact Or.inl (fun S => by show (if n = p + 1 then _ else _ : Nat → Int32) j = _; rw [if_pos e])
        · by_cases e2 : j = p
          · exact Or.inr ⟨nI n, fun S => by show (if n = p + 1 then _ else _ : Nat → Int32) j = _; rw [if_neg e, e2, pk_us]⟩
          · exact Or.inl (fun S => by show (if n = p + 1 then _ else _ : Nat → Int32) j = _; rw [if_neg e, pk_un e2])
    rcases key with k | k
    · rcases ih with i | ⟨v, i⟩
      · exact Or.inl (fun S => by rw [k, i])
      · exact Or.inr ⟨v, fun S => by rw [k, i]⟩
    · exact Or.inr k
theorem pm_sec_i (T S : Nat → Int32) (n : Nat) : pm_sec T (pm_sec T S n) n = pm_sec T S n := by
  funext j
  rcases pm_sec_c T j n with h | ⟨v, h⟩
  · rw [h]
  · rw [h, h]
/-- the two arrays hold the stack -/
def pm_sk (a3 a4 : Nat → Int32) : List (Nat × Nat) → Prop
  | [] => True
  | (p, w) :: r => a3 r.length = nI p ∧ a4 r.length = nI w ∧ pm_sk a3 a4 r
theorem pm_sk_u {a3 a4 b3 b4 : Nat → Int32} : ∀ (st : List (Nat × Nat)), (∀ i, i < st.length → b3 i = a3 i ∧ b4 i = a4 i) → pm_sk a3 a4 st → pm_sk b3 b4 st
  | [], _, _ => trivial
  | (p, w) :: r, h, hk => by
    obtain ⟨k1, k2, k3⟩ := hk
    have hr := h r.length (Nat.lt_succ_self _)
    exact ⟨hr.1.trans k1, hr.2.trans k2, pm_sk_u r (fun i hi => h i (Nat.lt_succ_of_lt hi)) k3⟩
theorem pm_at32 {post : St1 → Prop} {wd sz cn jd : Int32} {T S a3 a4 a5 : Nat → Int32} {a6 : Nat → Int64} {V B M L a11 a12 a13 : Nat → Int32} {l w : Nat} (hl : l < 14) (hw : w = 1 ∨ w = 2) (ha : a4 l = nI w)
    (H1 : w = 1 → post (wd, sz, nI l, cn, jd, T, S, a3, upd a4 l (nI (w - 1)), a5, a6, V, B, M, L, a11, a12, a13)) (H2 : w = 2 → post (wd, sz, nI (l + 1), cn, jd, T, S, a3, upd a4 l (nI (w - 1)), a5, a6, V, B, M, L, a11, a12, a13)) :
    wX_attach_32 post (nI l) wd sz (nI (l + 1)) cn jd T S a3 a4 a5 a6 V B M L a11 a12 a13 := by
  unfold wX_attach_32
  have c : (nI l).toNatClampNeg = l := nI_clamp (by omega)
  rw [c]
  have e : ((a4 l) - 1).toInt8.toInt32 = nI (w - 1) := by
    rw [ha]
    rcases hw with h | h <;> subst h <;> decide
  rw [e]
  refine ⟨pk_in l 16 (by omega), pk_in l 16 (by omega), nm_e ⟨pk_in l 16 (by omega), ?_⟩⟩
  rw [pk_us]
  rcases hw with h | h
  · subst h
    exact br_t (by decide) (nm_r (nI_pred l) (H1 rfl))
  · subst h
    exact br_f (by decide) (H2 rfl)
theorem pm_attach {post : St1 → Prop} {wd sz cn jd : Int32} {T S a3 a4 a5 : Nat → Int32} {a6 : Nat → Int64} {V B M L a11 a12 a13 : Nat → Int32} {k p w : Nat} {r : List (Nat × Nat)} (hk : k < 14) (hp : p < k) (hw : w = 1 ∨ w = 2) (hr : r.length < 14)
    (h : pm_sk a3 a4 ((p, w) :: r))
    (H : ∀ b4, pm_sk a3 b4 (pm_at ((p, w) :: r)) → post (wd, sz, nI (pm_at ((p, w) :: r)).length, cn, jd, T, pm_w1 k ((p, w) :: r) S, a3, b4, a5, a6, V, B, M, L, a11, a12, a13)) :
    wpX_attach post (wd, sz, nI (r.length + 1), cn, jd, T, S, a3, a4, a5, a6, V, B, M, L, a11, a12, a13) (nI k) := by
  obtain ⟨h1, h2, h3⟩ := h
  have keep : ∀ x, pm_sk a3 (upd a4 r.length x) r := fun x => pm_sk_u r (fun i hi => ⟨rfl, pk_un (by omega)⟩) h3
  have fin : ∀ Sx, Sx = pm_w1 k ((p, w) :: r) S → wX_attach_32 post (nI r.length) wd sz (nI (r.length + 1)) cn jd T Sx a3 a4 a5 a6 V B M L a11 a12 a13 := by
    intro Sx hS
    refine pm_at32 hr hw h2 (fun e => ?_) (fun e => ?_)
    · have t := H (upd a4 r.length (nI (w - 1))) (by show pm_sk _ _ (if w = 1 then r else (p, w - 1) :: r); rw [if_pos e]; exact keep _)
      have t2 : pm_at ((p, w) :: r) = r := if_pos e
      rw [t2, ← hS] at t
      exact t
    · have t2 : pm_at ((p, w) :: r) = (p, w - 1) :: r := if_neg (by omega)
      have t := H (upd a4 r.length (nI (w - 1))) (by rw [t2]; exact ⟨h1, pk_us, keep _⟩)
      rw [t2, ← hS] at t
      exact t
  unfold wpX_attach
  refine nm_r (nI_pred r.length) ?_
  have c : (nI r.length).toNatClampNeg = r.length := nI_clamp (by omega)
  rw [c, h1]
  refine ⟨pk_in r.length 16 (by omega), pk_eq k (p + 1) (fun e => fin S (if_pos e).symm) (fun e => ⟨pk_in r.length 16 (by omega), pk_in p 14 (by omega), nm_r ?_ (fin (upd S p (nI k)) (if_neg e).symm)⟩) rfl (nI_1 p)⟩
  rw [nI_clamp (show p < 2 ^ 31 by omega)]
  have t : ∀ q, q < 14 → (nI q).toInt8.toInt32 = nI q := by decide +kernel
  rw [t k hk]
theorem pm_c27 {post : Int32 → St1 → Prop} {J : Int32 → Int32 → Int32 → Int32 → Int32 → Int32 → (Nat → Int32) → (Nat → Int32) → (Nat → Int32) → (Nat → Int32) → (Nat → Int32) → (Nat → Int64) → (Nat → Int32) → (Nat → Int32) → (Nat → Int32) → (Nat → Int32) → (Nat → Int32) → (Nat → Int32) → (Nat → Int32) → Prop} {wd sz cn jd : Int32} {T S a3 a4 a5 : Nat → Int32} {a6 : Nat → Int64} {V B M L a11 a12 a13 : Nat → Int32} {k : Nat} {st : List (Nat × Nat)} (hk : k < 14) (hl : st.length ≤ k) (hs : pm_sk a3 a4 st)
    (H : ∀ b3 b4, pm_sk b3 b4 (pm_push T k st) → J (nI (k + 1)) wd sz (nI (pm_push T k st).length) cn jd T S b3 b4 a5 a6 V B M L a11 a12 a13) :
    wX_complete_27 post J (nI k) wd sz (nI st.length) cn jd T S a3 a4 a5 a6 V B M L a11 a12 a13 := by
  unfold wX_complete_27
  have c : (nI k).toNatClampNeg = k := nI_clamp (by omega)
  have cl : (nI st.length).toNatClampNeg = st.length := nI_clamp (by omega)
  rw [c, cl]
  refine ⟨pk_in k 14 hk, pm_wants ?_⟩
  refine pk_le (pm_wn (T k)) 0 (fun e => ?_) (fun e => ?_) rfl rfl (by have := pm_wn_c (T k); omega)
  · have t : pm_push T k st = st := if_pos (by omega)
    rw [t] at H
    exact nm_r (nI_1 k) (H a3 a4 hs)
  · have t : pm_push T k st = (k, pm_wn (T k)) :: st := if_neg (by omega)
    rw [t] at H
    have t1 : ∀ q, q < 14 → (nI q).toInt8.toInt32 = nI q := by decide +kernel
    rw [t1 k hk, t1 _ (by have := pm_wn_c (T k); omega)]
    refine ⟨pk_in st.length 16 (by omega), nm_e ⟨pk_in st.length 16 (by omega), nm_e (nm_r (nI_1 _) (nm_r (nI_1 k) (H _ _ ?_)))⟩⟩
    exact ⟨pk_us, pk_us, pm_sk_u st (fun i hi => ⟨pk_un (by omega), pk_un (by omega)⟩) hs⟩
theorem pm_c7 {post : Int32 → St1 → Prop} {wd cn jd : Int32} {T S a5 : Nat → Int32} {a6 : Nat → Int64} {V B M L a11 a12 a13 : Nat → Int32} {n : Nat} (hn : n ≤ 14)
    (H1 : pm_ok T n → ∀ (oc : Int32) (a3 a4 : Nat → Int32), post 1 (wd, nI n, oc, cn, jd, T, pm_sec T S n, a3, a4, a5, a6, V, B, M, L, a11, a12, a13)) (H0 : ¬ pm_ok T n → ∀ (oc : Int32) (a3 a4 : Nat → Int32), post 0 (wd, nI n, oc, cn, jd, T, pm_sec T S n, a3, a4, a5, a6, V, B, M, L, a11, a12, a13)) :
    ∀ d k, k + d = n → ∀ a3 a4, pm_sk a3 a4 (pm_st T k) → wX_complete_7 post (d + 1) (nI k) wd (nI n) (nI (pm_st T k).length) cn jd T (pm_sec T S k) a3 a4 a5 a6 V B M L a11 a12 a13 := by
  intro d
  induction d with
  | zero =>
    intro k hk a3 a4 hs
    have hg := pm_good_st T k
    have e : k = n := by omega
    subst e
    unfold wX_complete_7
    refine pk_le k k (fun _ => ?_) (fun z => absurd z (by omega))
    refine pk_le k 0 (fun z => H0 (fun t => absurd t.1 (by omega)) _ _ _) (fun z => ?_)
    refine pk_eq (pm_st T k).length 0 (fun y => H1 ⟨z, List.eq_nil_of_length_eq_zero y⟩ _ _ _) (fun y => H0 (fun t => y (by rw [t.2]; rfl)) _ _ _) rfl rfl (by have := hg.1; omega)
  | succ d ih =>
    intro k hk a3 a4 hs
    have hg := pm_good_st T k
    unfold wX_complete_7
    refine pk_le n k (fun z => absurd z (by omega)) (fun _ => ?_)
    have nx : ∀ b3 b4, pm_sk b3 b4 (pm_push T k (pm_at (pm_st T k))) → wX_complete_7 post (d + 1) (nI (k + 1)) wd (nI n) (nI (pm_push T k (pm_at (pm_st T k))).length) cn jd T (pm_w1 k (pm_st T k) (pm_sec T S k)) b3 b4 a5 a6 V B M L a11 a12 a13 :=
      fun b3 b4 h => ih (k + 1) (by omega) b3 b4 h
    have hg2 := pm_good_at hg
    revert nx hs hg hg2
    generalize pm_st T k = st
    intro hs hg nx hg2
    cases st with
    | nil =>
      refine br_t (by decide) ?_
      exact pm_c27 (st := []) (by omega) (Nat.zero_le _) trivial nx
    | cons q r =>
      obtain ⟨p, w⟩ := q
      have hl : r.length + 1 ≤ k := hg.1
      have hq := hg.2 (p, w) (List.mem_cons_self ..)
      refine br_f (nI_nle (n := r.length + 1) (by omega) (by omega)) ?_
      exact pm_attach (by omega) hq.1 hq.2 (by omega) hs (fun b4 hb => pm_c27 (by omega) hg2.1 hb nx)
theorem pm_complete {post : Int32 → St1 → Prop} {wd cn jd : Int32} {T S a5 : Nat → Int32} {a6 : Nat → Int64} {V B M L a11 a12 a13 : Nat → Int32} {n : Nat} (oc : Int32) (a3 a4 : Nat → Int32) (hn : n ≤ 14)
    (H1 : pm_ok T n → ∀ (oc : Int32) (a3 a4 : Nat → Int32), post 1 (wd, nI n, oc, cn, jd, T, pm_sec T S n, a3, a4, a5, a6, V, B, M, L, a11, a12, a13)) (H0 : ¬ pm_ok T n → ∀ (oc : Int32) (a3 a4 : Nat → Int32), post 0 (wd, nI n, oc, cn, jd, T, pm_sec T S n, a3, a4, a5, a6, V, B, M, L, a11, a12, a13)) :
    wpX_complete post (wd, nI n, oc, cn, jd, T, S, a3, a4, a5, a6, V, B, M, L, a11, a12, a13) :=
  ⟨n + 1, pm_c7 hn H1 H0 n 0 (by omega) a3 a4 trivial⟩
end
section
/-! step(): whatever the junk (oc a3 a4 B a11 a12 a13), the same answer and the same value, memory, lastSeen -/
theorem pm_r75 (x4 z0 : Int32) : ∃ r : Int32, (r = 0 ∨ r = 1) ∧ ∀ {post : Int32 → St1 → Prop} {wd sz oc cn jd : Int32} {T S a3 a4 a5 : Nat → Int32} {a6 : Nat → Int64} {V B M L a11 a12 a13 : Nat → Int32}, post r (wd, sz, oc, cn, jd, T, S, a3, a4, a5, a6, V, B, M, L, a11, a12, a13) → wX_remembering_75 post x4 z0 wd sz oc cn jd T S a3 a4 a5 a6 V B M L a11 a12 a13 := by
  by_cases h : x4 = 11
  · by_cases g : z0 = 1
    · refine ⟨1, Or.inr rfl, ?_⟩
      intro post wd sz oc cn jd T S a3 a4 a5 a6 V B M L a11 a12 a13 H
      exact br_t h (br_t g H)
    · refine ⟨0, Or.inl rfl, ?_⟩
      intro post wd sz oc cn jd T S a3 a4 a5 a6 V B M L a11 a12 a13 H
      exact br_t h (br_f g H)
  · by_cases g : z0 = 0
    · refine ⟨1, Or.inr rfl, ?_⟩
      intro post wd sz oc cn jd T S a3 a4 a5 a6 V B M L a11 a12 a13 H
      exact br_f h (br_t g H)
    · refine ⟨0, Or.inl rfl, ?_⟩
      intro post wd sz oc cn jd T S a3 a4 a5 a6 V B M L a11 a12 a13 H
      exact br_f h (br_f g H)
theorem pm_r46 (wd t x4 : Int32) (L : Nat → Int32) {k : Nat} (hk : k < 14) : ∃ r : Int32, (r = 0 ∨ r = 1) ∧ ∀ {post : Int32 → St1 → Prop} {sz oc cn jd : Int32} {T S a3 a4 a5 : Nat → Int32} {a6 : Nat → Int64} {V B M a11 a12 a13 : Nat → Int32}, post r (wd, sz, oc, cn, jd, T, S, a3, a4, a5, a6, V, B, M, L, a11, a12, a13) → wX_remembering_46 post (nI k) t x4 wd sz oc cn jd T S a3 a4 a5 a6 V B M L a11 a12 a13 := by
  have c : (nI k).toNatClampNeg = k := nI_clamp (by omega)
  by_cases h : L k < 0
  · obtain ⟨r, hr, H⟩ := pm_r75 x4 0
    refine ⟨r, hr, ?_⟩
    intro post sz oc cn jd T S a3 a4 a5 a6 V B M a11 a12 a13 z
    unfold wX_remembering_46
    rw [c]
    exact ⟨pk_in k 14 hk, br_t h (H z)⟩
  · by_cases g : wd < t - L k
    · obtain ⟨r, hr, H⟩ := pm_r75 x4 0
      refine ⟨r, hr, ?_⟩
      intro post sz oc cn jd T S a3 a4 a5 a6 V B M a11 a12 a13 z
      unfold wX_remembering_46
      rw [c]
      exact ⟨pk_in k 14 hk, br_f h ⟨pk_in k 14 hk, br_t g (H z)⟩⟩
    · obtain ⟨r, hr, H⟩ := pm_r75 x4 1
      refine ⟨r, hr, ?_⟩
      intro post sz oc cn jd T S a3 a4 a5 a6 V B M a11 a12 a13 z
      unfold wX_remembering_46
      rw [c]
      exact ⟨pk_in k 14 hk, br_f h ⟨pk_in k 14 hk, br_f g (H z)⟩⟩
theorem pm_r35 (wd t x4 z0 z1 : Int32) (L : Nat → Int32) (hL : pm_s L) {k : Nat} (hk : k < 14) : ∃ (r : Int32) (L' : Nat → Int32), (r = 0 ∨ r = 1) ∧ pm_s L' ∧ (∀ i, i ≠ k → L' i = L i) ∧ ∀ {post : Int32 → St1 → Prop} {sz oc cn jd : Int32} {T S a3 a4 a5 : Nat → Int32} {a6 : Nat → Int64} {V B M a11 a12 a13 : Nat → Int32}, post r (wd, sz, oc, cn, jd, T, S, a3, a4, a5, a6, V, B, M, L', a11, a12, a13) → wX_remembering_35 post (nI k) t x4 z0 z1 wd sz oc cn jd T S a3 a4 a5 a6 V B M L a11 a12 a13 := by
  have c : (nI k).toNatClampNeg = k := nI_clamp (by omega)
  by_cases h : z1 = z0
  · obtain ⟨r, hr, H⟩ := pm_r46 wd t x4 (upd L k t.toInt16.toInt32) hk
    refine ⟨r, _, hr, pm_su hL (pk_vs t), fun i hi => pk_un hi, ?_⟩
    intro post sz oc cn jd T S a3 a4 a5 a6 V B M a11 a12 a13 z
    unfold wX_remembering_35
    rw [c]
    exact br_t h ⟨pk_in k 14 hk, nm_e (H z)⟩
  · obtain ⟨r, hr, H⟩ := pm_r46 wd t x4 L hk
    refine ⟨r, L, hr, hL, fun i hi => rfl, ?_⟩
    intro post sz oc cn jd T S a3 a4 a5 a6 V B M a11 a12 a13 z
    exact br_f h (H z)
theorem pm_r22 (wd p1 t x4 : Int32) (L : Nat → Int32) (hL : pm_s L) {k : Nat} (hk : k < 14) : ∃ (r : Int32) (L' : Nat → Int32), (r = 0 ∨ r = 1) ∧ pm_s L' ∧ (∀ i, i ≠ k → L' i = L i) ∧ ∀ {post : Int32 → St1 → Prop} {sz oc cn jd : Int32} {T S a3 a4 a5 : Nat → Int32} {a6 : Nat → Int64} {V B M a11 a12 a13 : Nat → Int32}, post r (wd, sz, oc, cn, jd, T, S, a3, a4, a5, a6, V, B, M, L', a11, a12, a13) → wX_remembering_22 post (nI k) p1 t x4 wd sz oc cn jd T S a3 a4 a5 a6 V B M L a11 a12 a13 := by
  by_cases h : x4 = 11
  · obtain ⟨r, L', hr, hs, hi, H⟩ := pm_r35 wd t x4 1 p1 L hL hk
    refine ⟨r, L', hr, hs, hi, ?_⟩
    intro post sz oc cn jd T S a3 a4 a5 a6 V B M a11 a12 a13 z
    exact br_t h (H z)
  · obtain ⟨r, L', hr, hs, hi, H⟩ := pm_r35 wd t x4 0 p1 L hL hk
    refine ⟨r, L', hr, hs, hi, ?_⟩
    intro post sz oc cn jd T S a3 a4 a5 a6 V B M a11 a12 a13 z
    exact br_f h (H z)
theorem pm_r172 {post : Int32 → St1 → Prop} {wd sz oc cn jd : Int32} {T S a3 a4 a5 : Nat → Int32} {a6 : Nat → Int64} {V B M L a11 a12 a13 : Nat → Int32} {k : Nat} (hk : k < 14) (h : post 1 (wd, sz, oc, cn, jd, T, S, a3, a4, a5, a6, V, B, upd M k 1, L, a11, a12, a13)) : wX_remembering_172 post (nI k) (nI k) wd sz oc cn jd T S a3 a4 a5 a6 V B M L a11 a12 a13 := by
  have c : (nI k).toNatClampNeg = k := nI_clamp (by omega)
  unfold wX_remembering_172
  rw [c]
  refine ⟨pk_in k 14 hk, nm_e ⟨pk_in k 14 hk, ?_⟩⟩
  rw [pk_us]
  exact ⟨pm_nb (Or.inr rfl), h⟩
theorem pm_rem (wd p1 t : Int32) (T S V M L : Nat → Int32) (hS : pm_r S) (hM : pm_b M) (hL : pm_s L) (hp : p1 = 0 ∨ p1 = 1) {k : Nat} (hk : k < 14) :
    ∃ (r : Int32) (M' L' : Nat → Int32), (r = 0 ∨ r = 1) ∧ pm_b M' ∧ pm_s L' ∧ (∀ i, i ≠ k → M' i = M i ∧ L' i = L i) ∧ ∀ {post : Int32 → St1 → Prop} {sz oc cn jd : Int32} {a3 a4 a5 : Nat → Int32} {a6 : Nat → Int64} {B a11 a12 a13 : Nat → Int32}, post r (wd, sz, oc, cn, jd, T, S, a3, a4, a5, a6, V, B, M', L', a11, a12, a13) → wpX_remembering post (wd, sz, oc, cn, jd, T, S, a3, a4, a5, a6, V, B, M, L, a11, a12, a13) (nI k) p1 t := by
  have c : (nI k).toNatClampNeg = k := nI_clamp (by omega)
  have i14 : vp_in (nI k) 14 := pk_in k 14 hk
  by_cases h11 : T k = 11
  · obtain ⟨r, L', hr, hs, hi, H⟩ := pm_r22 wd p1 t (T k) L hL hk
    refine ⟨r, M, L', hr, hM, hs, fun i e => ⟨rfl, hi i e⟩, ?_⟩
    intro post sz oc cn jd a3 a4 a5 a6 B a11 a12 a13 z
    unfold wpX_remembering
    dsimp only
    rw [c]
    exact ⟨i14, nm_e (br_t h11 (H z))⟩
  · by_cases h12 : T k = 12
    · obtain ⟨r, L', hr, hs, hi, H⟩ := pm_r22 wd p1 t (T k) L hL hk
      refine ⟨r, M, L', hr, hM, hs, fun i e => ⟨rfl, hi i e⟩, ?_⟩
      intro post sz oc cn jd a3 a4 a5 a6 B a11 a12 a13 z
      unfold wpX_remembering
      dsimp only
      rw [c]
      exact ⟨i14, nm_e (br_f h11 (br_t h12 (H z)))⟩
    · by_cases h8 : T k = 8
      · have hx := pm_or (hM k) hp
        refine ⟨vp_nar .boolean (M k ||| p1), upd M k (vp_nar .boolean (M k ||| p1)), L, hx, pm_bu hM hx, hL, fun i e => ⟨pk_un e, rfl⟩, ?_⟩
        intro post sz oc cn jd a3 a4 a5 a6 B a11 a12 a13 z
        unfold wpX_remembering
        dsimp only
        rw [c]
        refine ⟨i14, nm_e (br_f h11 (br_f h12 (br_t h8 ⟨i14, i14, nm_e ⟨i14, ?_⟩⟩)))⟩
        rw [pk_us]
        exact ⟨pm_nb hx, z⟩
      · by_cases h9 : T k = 9
        · have hx := pm_and (hM k) hp
          refine ⟨vp_nar .boolean (M k &&& p1), upd M k (vp_nar .boolean (M k &&& p1)), L, hx, pm_bu hM hx, hL, fun i e => ⟨pk_un e, rfl⟩, ?_⟩
          intro post sz oc cn jd a3 a4 a5 a6 B a11 a12 a13 z
          unfold wpX_remembering
          dsimp only
          rw [c]
          refine ⟨i14, nm_e (br_f h11 (br_f h12 (br_f h8 (br_t h9 ⟨i14, i14, nm_e ⟨i14, ?_⟩⟩))))⟩
          rw [pk_us]
          exact ⟨pm_nb hx, z⟩
        · obtain ⟨m, hm, em⟩ := hS k
          have cm : (nI m).toNatClampNeg = m := nI_clamp (by omega)
          have im : vp_in (nI m) 14 := pk_in m 14 hm
          by_cases hv : V m = 0
          · by_cases hp0 : p1 = 0
            · refine ⟨0, upd M k 0, L, Or.inl rfl, pm_bu hM (Or.inl rfl), hL, fun i e => ⟨pk_un e, rfl⟩, ?_⟩
              intro post sz oc cn jd a3 a4 a5 a6 B a11 a12 a13 z
              unfold wpX_remembering
              dsimp only
              rw [c, em, cm]
              refine ⟨i14, nm_e (br_f h11 (br_f h12 (br_f h8 (br_f h9 ⟨i14, im, br_t hv (br_t hp0 ⟨i14, nm_e ⟨i14, ?_⟩⟩)⟩))))⟩
              rw [pk_us]
              exact ⟨pm_nb (Or.inl rfl), z⟩
            · by_cases hm0 : M k = 0
              · refine ⟨0, upd M k 0, L, Or.inl rfl, pm_bu hM (Or.inl rfl), hL, fun i e => ⟨pk_un e, rfl⟩, ?_⟩
                intro post sz oc cn jd a3 a4 a5 a6 B a11 a12 a13 z
                unfold wpX_remembering
                dsimp only
                rw [c, em, cm]
                refine ⟨i14, nm_e (br_f h11 (br_f h12 (br_f h8 (br_f h9 ⟨i14, im, br_t hv (br_f hp0 ⟨i14, br_t hm0 ⟨i14, nm_e ⟨i14, ?_⟩⟩⟩)⟩))))⟩
                rw [pk_us]
                exact ⟨pm_nb (Or.inl rfl), z⟩
              · refine ⟨1, upd M k 1, L, Or.inr rfl, pm_bu hM (Or.inr rfl), hL, fun i e => ⟨pk_un e, rfl⟩, ?_⟩
                intro post sz oc cn jd a3 a4 a5 a6 B a11 a12 a13 z
                unfold wpX_remembering
                dsimp only
                rw [c, em, cm]
                exact ⟨i14, nm_e (br_f h11 (br_f h12 (br_f h8 (br_f h9 ⟨i14, im, br_t hv (br_f hp0 ⟨i14, br_f hm0 (pm_r172 hk z)⟩)⟩))))⟩
          · refine ⟨1, upd M k 1, L, Or.inr rfl, pm_bu hM (Or.inr rfl), hL, fun i e => ⟨pk_un e, rfl⟩, ?_⟩
            intro post sz oc cn jd a3 a4 a5 a6 B a11 a12 a13 z
            unfold wpX_remembering
            dsimp only
            rw [c, em, cm]
            exact ⟨i14, nm_e (br_f h11 (br_f h12 (br_f h8 (br_f h9 ⟨i14, im, br_f hv (pm_r172 hk z)⟩))))⟩
/-- the operators that remember nothing -/
theorem pm_part0 (wd st t : Int32) (T S V M L V0 : Nat → Int32) (hS : pm_r S) {n k : Nat} (hn : n ≤ 14) (hk : k < n) (hl : 4 ≤ T k → k + 1 < n) (h7 : ¬ 7 < T k) :
    ∃ r : Int32, (r = 0 ∨ r = 1) ∧ ∀ {post : Int32 → St1 → Prop} {sz oc cn jd : Int32} {a3 a4 a5 : Nat → Int32} {a6 : Nat → Int64} {B a11 a12 a13 : Nat → Int32}, (∀ i, i < n → B i = V0 i) → post r (wd, sz, oc, cn, jd, T, S, a3, a4, a5, a6, V, B, M, L, a11, a12, a13) → wpX_partAt post (wd, sz, oc, cn, jd, T, S, a3, a4, a5, a6, V, B, M, L, a11, a12, a13) (nI k) st t := by
  have c : (nI k).toNatClampNeg = k := nI_clamp (by omega)
  have i14 : vp_in (nI k) 14 := pk_in k 14 (by omega)
  by_cases h4 : 4 ≤ T k
  · have hk1 := hl h4
    have c1 : (nI (k + 1)).toNatClampNeg = k + 1 := nI_clamp (by omega)
    have j14 : vp_in (nI (k + 1)) 14 := pk_in (k + 1) 14 (by omega)
    have n4 : ¬ T k < 4 := by
      rw [Int32.lt_iff_toInt_lt]
      rw [Int32.le_iff_toInt_le] at h4
      omega
    obtain ⟨m, hm, em⟩ := hS k
    have cm : (nI m).toNatClampNeg = m := nI_clamp (by omega)
    have im : vp_in (nI m) 14 := pk_in m 14 hm
    by_cases e4 : T k = 4
    · by_cases g : V (k + 1) = 0
      · refine ⟨1, Or.inr rfl, ?_⟩
        intro post sz oc cn jd a3 a4 a5 a6 B a11 a12 a13 hB z
        unfold wpX_partAt
        dsimp only
        rw [c, nI_1, c1]
        exact ⟨i14, nm_e (br_t h4 ⟨j14, nm_e (br_f n4 (br_f h7 (br_t e4 (br_t g z))))⟩)⟩
      · refine ⟨0, Or.inl rfl, ?_⟩
        intro post sz oc cn jd a3 a4 a5 a6 B a11 a12 a13 hB z
        unfold wpX_partAt
        dsimp only
        rw [c, nI_1, c1]
        exact ⟨i14, nm_e (br_t h4 ⟨j14, nm_e (br_f n4 (br_f h7 (br_t e4 (br_f g z))))⟩)⟩
    · by_cases e5 : T k = 5
      · by_cases g : V (k + 1) = 0
        · refine ⟨0, Or.inl rfl, ?_⟩
          intro post sz oc cn jd a3 a4 a5 a6 B a11 a12 a13 hB z
          unfold wpX_partAt
          dsimp only
          rw [c, nI_1, c1]
          exact ⟨i14, nm_e (br_t h4 ⟨j14, nm_e (br_f n4 (br_f h7 (br_f e4 (br_t e5 (br_t g z)))))⟩)⟩
        · by_cases g2 : V m = 0
          · refine ⟨0, Or.inl rfl, ?_⟩
            intro post sz oc cn jd a3 a4 a5 a6 B a11 a12 a13 hB z
            unfold wpX_partAt
            dsimp only
            rw [c, nI_1, c1, em, cm]
            exact ⟨i14, nm_e (br_t h4 ⟨j14, nm_e (br_f n4 (br_f h7 (br_f e4 (br_t e5 (br_f g ⟨i14, im, br_t g2 z⟩)))))⟩)⟩
          · refine ⟨1, Or.inr rfl, ?_⟩
            intro post sz oc cn jd a3 a4 a5 a6 B a11 a12 a13 hB z
            unfold wpX_partAt
            dsimp only
            rw [c, nI_1, c1, em, cm]
            exact ⟨i14, nm_e (br_t h4 ⟨j14, nm_e (br_f n4 (br_f h7 (br_f e4 (br_t e5 (br_f g ⟨i14, im, br_f g2 z⟩)))))⟩)⟩
      · by_cases e6 : T k = 6
        · by_cases g : V (k + 1) = 0
          · by_cases g2 : V m = 0
            · refine ⟨0, Or.inl rfl, ?_⟩
              intro post sz oc cn jd a3 a4 a5 a6 B a11 a12 a13 hB z
              unfold wpX_partAt
              dsimp only
              rw [c, nI_1, c1, em, cm]
              exact ⟨i14, nm_e (br_t h4 ⟨j14, nm_e (br_f n4 (br_f h7 (br_f e4 (br_f e5 (br_t e6 (br_t g ⟨i14, im, br_t g2 z⟩))))))⟩)⟩
            · refine ⟨1, Or.inr rfl, ?_⟩
              intro post sz oc cn jd a3 a4 a5 a6 B a11 a12 a13 hB z
              unfold wpX_partAt
              dsimp only
              rw [c, nI_1, c1, em, cm]
              exact ⟨i14, nm_e (br_t h4 ⟨j14, nm_e (br_f n4 (br_f h7 (br_f e4 (br_f e5 (br_t e6 (br_t g ⟨i14, im, br_f g2 z⟩))))))⟩)⟩
          · refine ⟨1, Or.inr rfl, ?_⟩
            intro post sz oc cn jd a3 a4 a5 a6 B a11 a12 a13 hB z
            unfold wpX_partAt
            dsimp only
            rw [c, nI_1, c1]
            exact ⟨i14, nm_e (br_t h4 ⟨j14, nm_e (br_f n4 (br_f h7 (br_f e4 (br_f e5 (br_t e6 (br_f g z))))))⟩)⟩
        · by_cases e7 : T k = 7
          · by_cases g : t ≤ 0
            · refine ⟨0, Or.inl rfl, ?_⟩
              intro post sz oc cn jd a3 a4 a5 a6 B a11 a12 a13 hB z
              unfold wpX_partAt
              dsimp only
              rw [c, nI_1, c1]
              exact ⟨i14, nm_e (br_t h4 ⟨j14, nm_e (br_f n4 (br_f h7 (br_f e4 (br_f e5 (br_f e6 (br_t e7 (br_t g z)))))))⟩)⟩
            · by_cases g2 : V0 (k + 1) = 0
              · refine ⟨0, Or.inl rfl, ?_⟩
                intro post sz oc cn jd a3 a4 a5 a6 B a11 a12 a13 hB z
                unfold wpX_partAt
                dsimp only
                rw [c, nI_1, c1, hB (k + 1) hk1]
                exact ⟨i14, nm_e (br_t h4 ⟨j14, nm_e (br_f n4 (br_f h7 (br_f e4 (br_f e5 (br_f e6 (br_t e7 (br_f g ⟨j14, br_t g2 z⟩)))))))⟩)⟩
              · refine ⟨1, Or.inr rfl, ?_⟩
                intro post sz oc cn jd a3 a4 a5 a6 B a11 a12 a13 hB z
                unfold wpX_partAt
                dsimp only
                rw [c, nI_1, c1, hB (k + 1) hk1]
                exact ⟨i14, nm_e (br_t h4 ⟨j14, nm_e (br_f n4 (br_f h7 (br_f e4 (br_f e5 (br_f e6 (br_t e7 (br_f g ⟨j14, br_f g2 z⟩)))))))⟩)⟩
          · refine ⟨1, Or.inr rfl, ?_⟩
            intro post sz oc cn jd a3 a4 a5 a6 B a11 a12 a13 hB z
            unfold wpX_partAt
            dsimp only
            rw [c, nI_1, c1]
            exact ⟨i14, nm_e (br_t h4 ⟨j14, nm_e (br_f n4 (br_f h7 (br_f e4 (br_f e5 (br_f e6 (br_f e7 trivial))))))⟩)⟩
  · by_cases g : ((st >>> (T k &&& 31)) &&& 1) = 0
    · refine ⟨0, Or.inl rfl, ?_⟩
      intro post sz oc cn jd a3 a4 a5 a6 B a11 a12 a13 hB z
      unfold wpX_partAt
      dsimp only
      rw [c]
      exact ⟨i14, nm_e (br_f h4 (br_t g z))⟩
    · refine ⟨1, Or.inr rfl, ?_⟩
      intro post sz oc cn jd a3 a4 a5 a6 B a11 a12 a13 hB z
      unfold wpX_partAt
      dsimp only
      rw [c]
      exact ⟨i14, nm_e (br_f h4 (br_f g z))⟩
theorem pm_part (wd st t : Int32) (T S V M L V0 : Nat → Int32) (hS : pm_r S) (hV : pm_b V) (hM : pm_b M) (hL : pm_s L) {n k : Nat} (hn : n ≤ 14) (hk : k < n) (hl : 4 ≤ T k → k + 1 < n) :
    ∃ (r : Int32) (M' L' : Nat → Int32), (r = 0 ∨ r = 1) ∧ pm_b M' ∧ pm_s L' ∧ (∀ i, i ≠ k → M' i = M i ∧ L' i = L i) ∧ ∀ {post : Int32 → St1 → Prop} {sz oc cn jd : Int32} {a3 a4 a5 : Nat → Int32} {a6 : Nat → Int64} {B a11 a12 a13 : Nat → Int32}, (∀ i, i < n → B i = V0 i) → post r (wd, sz, oc, cn, jd, T, S, a3, a4, a5, a6, V, B, M', L', a11, a12, a13) → wpX_partAt post (wd, sz, oc, cn, jd, T, S, a3, a4, a5, a6, V, B, M, L, a11, a12, a13) (nI k) st t := by
  by_cases h7 : 7 < T k
  · have c : (nI k).toNatClampNeg = k := nI_clamp (by omega)
    have i14 : vp_in (nI k) 14 := pk_in k 14 (by omega)
    have h7' := h7
    rw [Int32.lt_iff_toInt_lt] at h7'
    have z7 : (7 : Int32).toInt = 7 := by decide
    have z4 : (4 : Int32).toInt = 4 := by decide
    have h4 : 4 ≤ T k := by
      rw [Int32.le_iff_toInt_le]
      omega
    have n4 : ¬ T k < 4 := by
      rw [Int32.lt_iff_toInt_lt]
      omega
    have hk1 := hl h4
    have c1 : (nI (k + 1)).toNatClampNeg = k + 1 := nI_clamp (by omega)
    have j14 : vp_in (nI (k + 1)) 14 := pk_in (k + 1) 14 (by omega)
    obtain ⟨r, M', L', hr, hM', hL', hi, H⟩ := pm_rem wd (V (k + 1)) t T S V M L hS hM hL (hV (k + 1)) (k := k) (by omega)
    refine ⟨r, M', L', hr, hM', hL', hi, ?_⟩
    intro post sz oc cn jd a3 a4 a5 a6 B a11 a12 a13 hB z
    unfold wpX_partAt
    dsimp only
    rw [c, nI_1, c1]
    refine ⟨i14, nm_e (br_t h4 ⟨j14, nm_e (br_f n4 (br_t h7 (H ?_)))⟩)⟩
    exact And.intro (pm_nb hr) z
  · obtain ⟨r, hr, H⟩ := pm_part0 wd st t T S V M L V0 hS hn hk hl h7
    exact ⟨r, M, L, hr, hM, hL, fun i _ => ⟨rfl, rfl⟩, H⟩
/-- the parts from the last but i down to the first -/
theorem pm_s35 (wd st t : Int32) (T S V0 : Nat → Int32) (hS : pm_r S) {n : Nat} (hn : n ≤ 14) (hl : ∀ k, k < n → 4 ≤ T k → k + 1 < n) :
    ∀ i, i ≤ n → ∀ V M L : Nat → Int32, pm_b V → pm_b M → pm_s L → ∃ V' M' L' : Nat → Int32, pm_b V' ∧ pm_b M' ∧ pm_s L' ∧ (∀ q, i ≤ q → V' q = V q ∧ M' q = M q ∧ L' q = L q) ∧
      ∀ {post : Int32 → St1 → Prop} {oc cn jd : Int32} {a3 a4 a5 : Nat → Int32} {a6 : Nat → Int64} {B a11 a12 a13 : Nat → Int32}, (∀ q, q < n → B q = V0 q) → post (V' 0) (wd, nI n, oc, cn, jd, T, S, a3, a4, a5, a6, V', B, M', L', a11, a12, a13) → wX_step_35 post st t (i + 1) (nI i + (-1)) wd (nI n) oc cn jd T S a3 a4 a5 a6 V B M L a11 a12 a13 := by
  intro i
  induction i with
  | zero =>
    intro _ V M L hV hM hL
    refine ⟨V, M, L, hV, hM, hL, fun q _ => ⟨rfl, rfl, rfl⟩, ?_⟩
    intro post oc cn jd a3 a4 a5 a6 B a11 a12 a13 hB z
    exact br_t (by decide) ⟨pm_nb (hV 0), z⟩
  | succ m ih =>
    intro hm V M L hV hM hL
    obtain ⟨r, M1, L1, hr, hM1, hL1, hi, H⟩ := pm_part wd st t T S V M L V0 hS hV hM hL hn (k := m) (by omega) (hl m (by omega))
    obtain ⟨V', M', L', hV', hM', hL', hi', H'⟩ := ih (by omega) (upd V m r) M1 L1 (pm_bu hV hr) hM1 hL1
    refine ⟨V', M', L', hV', hM', hL', fun q hq => ?_, ?_⟩
    · have t1 := hi' q (by omega)
      have t2 := hi q (by omega)
      exact ⟨t1.1.trans (pk_un (by omega)), t1.2.1.trans t2.1, t1.2.2.trans t2.2⟩
    · intro post oc cn jd a3 a4 a5 a6 B a11 a12 a13 hB z
      rw [pk_m1]
      refine br_f (nI_pos (by omega)) (H hB ?_)
      show vp_in (nI m) 14 ∧ _
      refine ⟨pk_in m 14 (by omega), nm_r ?_ (nm_e (H' hB z))⟩
      rw [nI_clamp (show m < 2 ^ 31 by omega), pm_vb hr]
theorem pm_step (wd st t : Int32) (T S V M L : Nat → Int32) (hS : pm_r S) (hV : pm_b V) (hM : pm_b M) (hL : pm_s L) {n : Nat} (hn : n ≤ 14) (hok : pm_ok T n) :
    ∃ (r : Int32) (V' M' L' : Nat → Int32), (r = 0 ∨ r = 1) ∧ pm_b V' ∧ pm_b M' ∧ pm_s L' ∧ (∀ q, n ≤ q → V' q = V q ∧ M' q = M q ∧ L' q = L q) ∧
      ∀ {post : Int32 → St1 → Prop} {oc cn jd : Int32} {a3 a4 a5 : Nat → Int32} {a6 : Nat → Int64} {B a11 a12 a13 : Nat → Int32}, (∀ B, post r (wd, nI n, oc, cn, jd, T, S, a3, a4, a5, a6, V', B, M', L', a11, a12, a13)) → wpX_step post (wd, nI n, oc, cn, jd, T, S, a3, a4, a5, a6, V, B, M, L, a11, a12, a13) st t := by
  have hlast := pm_ok_last hok
  have h0 := hok.1
  have hl : ∀ k, k < n → 4 ≤ T k → k + 1 < n := by
    intro k hk h4
    by_cases e : k = n - 1
    · subst e; exact absurd h4 hlast
    · omega
  obtain ⟨V', M', L', hV', hM', hL', hi, H⟩ := pm_s35 wd st t T S V hS hn hl n (Nat.le_refl n) V M L hV hM hL
  refine ⟨V' 0, V', M', L', hV' 0, hV', hM', hL', hi, ?_⟩
  intro post oc cn jd a3 a4 a5 a6 B a11 a12 a13 z
  have key : ∀ d i, i + d = n → wX_step_2 post st t wd (nI n) oc cn jd (d + 1) (nI i) T S a3 a4 a5 a6 V (pm_fl V B i) M L a11 a12 a13 := by
    intro d
    induction d with
    | zero =>
      intro i hi
      have e : i = n := by omega
      subst e
      obtain ⟨m, rfl⟩ : ∃ m, i = m + 1 := ⟨i - 1, by omega⟩
      refine pk_le (m + 1) (m + 1) (fun _ => ?_) (fun q => absurd q (by omega))
      exact nm_r ((nI_pred m).trans (pk_m1 m).symm) ⟨m + 1 + 1, H (fun q hq => pm_fl_lo hq) (z _)⟩
    | succ d ih =>
      intro i hi
      refine pk_le n i (fun q => absurd q (by omega)) (fun _ => ?_)
      refine ⟨pk_in i 14 (by omega), pk_in i 14 (by omega), nm_r ?_ (nm_r (nI_1 i) (ih (i + 1) (by omega)))⟩
      rw [nI_clamp (show i < 2 ^ 31 by omega), pm_vb (hV i), pm_fl_s]
  have k0 := key n 0 (by omega)
  rw [pm_fl_0] at k0
  exact ⟨n + 1, k0⟩
end
section
/-! begin() and judge() -/
def pm_g0 : Nat → Int32 := fun _ => 0
def pm_gM (T : Nat → Int32) : Nat → Int32 := fun i => if T i = 9 then 1 else 0
def pm_gL : Nat → Int32 := fun _ => -1
theorem pm_g0_b : pm_b pm_g0 := fun _ => Or.inl rfl
theorem pm_gM_b (T : Nat → Int32) : pm_b (pm_gM T) := by
  intro i
  by_cases h : T i = 9
  · exact Or.inr (if_pos h)
  · exact Or.inl (if_neg h)
theorem pm_gL_s : pm_s pm_gL := fun _ => by show vp_nar .short (-1) = -1; decide
theorem pm_begin {post : St1 → Prop} {wd sz oc cn jd : Int32} {T S a3 a4 a5 : Nat → Int32} {a6 : Nat → Int64} {V B M L a11 a12 a13 : Nat → Int32} (H : post (wd, sz, oc, cn, jd, T, S, a3, a4, a5, a6, pm_fl pm_g0 V 14, B, pm_fl (pm_gM T) M 14, pm_fl pm_gL L 14, a11, a12, a13)) : wpX_begin post (wd, sz, oc, cn, jd, T, S, a3, a4, a5, a6, V, B, M, L, a11, a12, a13) := by
  have key : ∀ d i, i + d = 14 → wX_begin_2 post wd sz oc cn jd (d + 1) (nI i) T S a3 a4 a5 a6 (pm_fl pm_g0 V i) B (pm_fl (pm_gM T) M i) (pm_fl pm_gL L i) a11 a12 a13 := by
    intro d
    induction d with
    | zero =>
      intro i hi
      have e : i = 14 := by omega
      subst e
      exact pk_le 14 14 (fun _ => H) (fun q => absurd q (by omega))
    | succ d ih =>
      intro i hi
      have c : (nI i).toNatClampNeg = i := nI_clamp (by omega)
      have i14 : vp_in (nI i) 14 := pk_in i 14 (by omega)
      have nx := ih (i + 1) (by omega)
      have e1 : upd (pm_fl pm_g0 V i) i 0 = pm_fl pm_g0 V (i + 1) := pm_fl_s pm_g0 V i
      have e2 : upd (pm_fl (pm_gM T) M i) i (pm_gM T i) = pm_fl (pm_gM T) M (i + 1) := pm_fl_s (pm_gM T) M i
      have e3 : upd (pm_fl pm_gL L i) i (-1) = pm_fl pm_gL L (i + 1) := pm_fl_s pm_gL L i
      have fin : ∀ z, z = pm_gM T i → wX_begin_36 post (wX_begin_2 post wd sz oc cn jd (d + 1)) (nI i) z (nI i) wd sz oc cn jd T S a3 a4 a5 a6 (pm_fl pm_g0 V (i + 1)) B (pm_fl (pm_gM T) M i) (pm_fl pm_gL L i) a11 a12 a13 := by
        intro z hz
        subst hz
        unfold wX_begin_36
        rw [c, pm_vb (pm_gM_b T i), e2, e3]
        exact ⟨i14, nm_e ⟨i14, nm_e (nm_r (nI_1 i) nx)⟩⟩
      refine pk_le 14 i (fun q => absurd q (by omega)) (fun _ => ?_)
      rw [c, e1]
      exact ⟨i14, nm_e ⟨i14, br_c (fun h => fin 1 (if_pos h).symm) (fun h => fin 0 (if_neg h).symm)⟩⟩
  have k0 := key 14 0 (by omega)
  rw [pm_fl_0, pm_fl_0, pm_fl_0] at k0
  exact ⟨15, k0⟩
/-- begin() if nothing is judged yet -/
def pm_bg (j : Nat) (g f : Nat → Int32) : Nat → Int32 := if j = 0 then pm_fl g f 14 else f
theorem pm_bg_i (j : Nat) (g f : Nat → Int32) : pm_bg j g (pm_bg j g f) = pm_bg j g f := by
  unfold pm_bg
  by_cases h : j = 0
  · rw [if_pos h, if_pos h, pm_fl_i]
  · rw [if_neg h, if_neg h]
theorem pm_bg_b {j : Nat} {g f : Nat → Int32} (hg : pm_b g) (hf : pm_b f) : pm_b (pm_bg j g f) := by
  unfold pm_bg
  by_cases h : j = 0
  · rw [if_pos h]; exact pm_fl_b hg hf
  · rw [if_neg h]; exact hf
theorem pm_bg_s {j : Nat} {g f : Nat → Int32} (hg : pm_s g) (hf : pm_s f) : pm_s (pm_bg j g f) := by
  unfold pm_bg
  by_cases h : j = 0
  · rw [if_pos h]; exact pm_fl_sh hg hf
  · rw [if_neg h]; exact hf
theorem pm_bg_n {j : Nat} {g f : Nat → Int32} (h : j ≠ 0) : pm_bg j g f = f := if_neg h
theorem pm_jenter {post : Int32 → St1 → Prop} {wd cn : Int32} {T S a5 : Nat → Int32} {a6 : Nat → Int64} {V B M L a11 a12 a13 : Nat → Int32} {n j : Nat} (oc : Int32) (a3 a4 : Nat → Int32) (hn : n ≤ 14) (hj : j ≤ 200) (hok : pm_ok T n)
    (H : ∀ (oc : Int32) (a3 a4 : Nat → Int32), ∃ fu, wX_judge_20 post fu wd (nI n) oc cn (nI j) T (pm_sec T S n) a3 a4 a5 a6 (pm_bg j pm_g0 V) B (pm_bg j (pm_gM T) M) (pm_bg j pm_gL L) a11 a12 a13) :
    wpX_judge post (wd, nI n, oc, cn, nI j, T, S, a3, a4, a5, a6, V, B, M, L, a11, a12, a13) := by
  unfold wpX_judge
  refine pm_complete oc a3 a4 hn (fun _ => ?_) (fun h => absurd hok h)
  intro oc a3 a4
  have t := H oc a3 a4
  refine br_f (by decide) ?_
  refine pk_eq j 0 (fun e => ?_) (fun e => ?_)
  · have e1 : ∀ g f : Nat → Int32, pm_bg j g f = pm_fl g f 14 := fun g f => if_pos e
    rw [e1, e1, e1] at t
    exact pm_begin t
  · rw [pm_bg_n e, pm_bg_n e, pm_bg_n e] at t
    exact t
/-- one step made with facts x at time c: answer r, new value, memory, lastSeen -/
def pm_stp (n c : Nat) (x : Int32) (wd : Int32) (T S V M L : Nat → Int32) (r : Int32) (V1 M1 L1 : Nat → Int32) : Prop :=
  (r = 0 ∨ r = 1) ∧ pm_b V1 ∧ pm_b M1 ∧ pm_s L1 ∧ (∀ q, 14 ≤ q → V1 q = V q ∧ M1 q = M q ∧ L1 q = L q) ∧
    ∀ {post : Int32 → St1 → Prop} {oc cn jd : Int32} {a3 a4 a5 : Nat → Int32} {a6 : Nat → Int64} {B a11 a12 a13 : Nat → Int32}, (∀ B, post r (wd, nI n, oc, cn, jd, T, S, a3, a4, a5, a6, V1, B, M1, L1, a11, a12, a13)) → wpX_step post (wd, nI n, oc, cn, jd, T, S, a3, a4, a5, a6, V, B, M, L, a11, a12, a13) x (nI c)
theorem pm_stp_ex {n : Nat} (c : Nat) (x wd : Int32) {T S V M L : Nat → Int32} (hS : pm_r S) (hV : pm_b V) (hM : pm_b M) (hL : pm_s L) (hn : n ≤ 14) (hok : pm_ok T n) :
    ∃ (r : Int32) (V1 M1 L1 : Nat → Int32), pm_stp n c x wd T S V M L r V1 M1 L1 := by
  obtain ⟨r, V1, M1, L1, h1, h2, h3, h4, h5, H⟩ := pm_step wd x (nI c) T S V M L hS hV hM hL hn hok
  exact ⟨r, V1, M1, L1, h1, h2, h3, h4, fun q hq => h5 q (by omega), H⟩
theorem pm_jbody {post : Int32 → St1 → Prop} {wd oc : Int32} {T S a3 a4 a5 : Nat → Int32} {a6 : Nat → Int64} {V B M L a11 a12 a13 : Nat → Int32} {n c j f : Nat} {x r : Int32} {V1 M1 L1 : Nat → Int32} (hc : c ≤ 200) (hj : j < c) (hx : a5 j = x)
    (H : pm_stp n j x wd T S V M L r V1 M1 L1)
    (K : ∀ B, wX_judge_20 post f wd (nI n) oc (nI c) (nI (j + 1)) T S a3 a4 a5 (pm_put a6 j r) V1 B M1 L1 a11 a12 a13) :
    wX_judge_20 post (f + 1) wd (nI n) oc (nI c) (nI j) T S a3 a4 a5 a6 V B M L a11 a12 a13 := by
  obtain ⟨h1, h2, h3, h4, h5, H⟩ := H
  refine pk_le c j (fun q => absurd q (by omega)) (fun _ => ⟨pk_in j 200 (by omega), ?_⟩)
  rw [nI_clamp (show j < 2 ^ 31 by omega), hx]
  refine H (fun B => ?_)
  have c4 : (nI (j / 64)).toNatClampNeg = j / 64 := nI_clamp (by omega)
  have i4 : vp_in (nI (j / 64)) 4 := pk_in (j / 64) 4 (by omega)
  intro x2 e2 x4 e4
  rw [pm_sh6 (by omega)] at e4
  subst e2 e4
  rw [c4]
  by_cases h : r = 0
  · have e : vp_updL a6 (j / 64) ((a6 (j / 64)) &&& (pm_bit j ^^^ (-1))) = pm_put a6 j r := by
      unfold pm_put
      rw [if_pos h]
    refine br_t h ⟨i4, ?_⟩
    unfold wX_judge_103
    rw [c4]
    exact ⟨i4, nm_r e (nm_r (nI_1 j) (K B))⟩
  · have e : vp_updL a6 (j / 64) ((a6 (j / 64)) ||| pm_bit j) = pm_put a6 j r := by
      unfold pm_put
      rw [if_neg h]
    refine br_f h ⟨i4, ?_⟩
    unfold wX_judge_103
    rw [c4]
    exact ⟨i4, nm_r e (nm_r (nI_1 j) (K B))⟩
theorem pm_jdone {post : Int32 → St1 → Prop} {wd sz oc : Int32} {T S a3 a4 a5 : Nat → Int32} {a6 : Nat → Int64} {V B M L a11 a12 a13 : Nat → Int32} {c f : Nat} (hc : c ≤ 200) (H : post 1 (wd, sz, oc, nI c, nI c, T, S, a3, a4, a5, a6, V, B, M, L, a11, a12, a13)) : wX_judge_20 post (f + 1) wd sz oc (nI c) (nI c) T S a3 a4 a5 a6 V B M L a11 a12 a13 :=
  pk_le c c (fun _ => H) (fun q => absurd q (by omega))
theorem pm_jloop (wd : Int32) (T S a5 : Nat → Int32) (hS : pm_r S) {n c : Nat} (hn : n ≤ 14) (hok : pm_ok T n) (hc : c ≤ 200) :
    ∀ d j, j + d = c → ∀ (a6 : Nat → Int64) (V M L : Nat → Int32), pm_b V → pm_b M → pm_s L → ∃ (a6' : Nat → Int64) (V' M' L' : Nat → Int32), pm_b V' ∧ pm_b M' ∧ pm_s L' ∧ (d = 0 → V' = V ∧ M' = M ∧ L' = L) ∧
      ∀ {post : Int32 → St1 → Prop} {oc : Int32} {a3 a4 B a11 a12 a13 : Nat → Int32}, (∀ B, post 1 (wd, nI n, oc, nI c, nI c, T, S, a3, a4, a5, a6', V', B, M', L', a11, a12, a13)) → wX_judge_20 post (d + 1) wd (nI n) oc (nI c) (nI j) T S a3 a4 a5 a6 V B M L a11 a12 a13 := by
  intro d
  induction d with
  | zero =>
    intro j hj a6 V M L hV hM hL
    have e : j = c := by omega
    subst e
    refine ⟨a6, V, M, L, hV, hM, hL, fun _ => ⟨rfl, rfl, rfl⟩, ?_⟩
    intro post oc a3 a4 B a11 a12 a13 z
    exact pm_jdone hc (z _)
  | succ d ih =>
    intro j hj a6 V M L hV hM hL
    obtain ⟨r, V1, M1, L1, H⟩ := pm_stp_ex j (a5 j) wd hS hV hM hL hn hok
    obtain ⟨a6', V', M', L', h1, h2, h3, _, H'⟩ := ih (j + 1) (by omega) (pm_put a6 j r) V1 M1 L1 H.2.1 H.2.2.1 H.2.2.2.1
    refine ⟨a6', V', M', L', h1, h2, h3, fun e => absurd e (by omega), ?_⟩
    intro post oc a3 a4 B a11 a12 a13 z
    exact pm_jbody hc (by omega) rfl H (fun B => H' z)
/-- the invariant of the law's loop -/
def pm_iv (n c j : Nat) (S V M L : Nat → Int32) : Prop := n ≤ 14 ∧ c ≤ 200 ∧ j ≤ c ∧ pm_r S ∧ pm_b V ∧ pm_b M ∧ pm_s L
/-- all is judged, and judge() changes nothing any more -/
def pm_set (n c : Nat) (T S V M L : Nat → Int32) : Prop := pm_iv n c c S V M L ∧ pm_ok T n ∧ pm_sec T S n = S ∧ pm_bg c pm_g0 V = V ∧ pm_bg c (pm_gM T) M = M ∧ pm_bg c pm_gL L = L
/-- judge() of u comes to this -/
def pm_jk (n c : Nat) (wd : Int32) (T S a5 : Nat → Int32) (a6 : Nat → Int64) (V M L : Nat → Int32) (u : St1) : Prop := ∀ post : Int32 → St1 → Prop, (∀ (oc : Int32) (a3 a4 B a11 a12 a13 : Nat → Int32), post 1 (wd, nI n, oc, nI c, nI c, T, S, a3, a4, a5, a6, V, B, M, L, a11, a12, a13)) → wpX_judge post u
theorem pm_jk_set {n c : Nat} {T S V M L : Nat → Int32} (h : pm_set n c T S V M L) (wd : Int32) (a5 : Nat → Int32) (a6 : Nat → Int64) (oc : Int32) (a3 a4 B a11 a12 a13 : Nat → Int32) :
    pm_jk n c wd T S a5 a6 V M L (wd, nI n, oc, nI c, nI c, T, S, a3, a4, a5, a6, V, B, M, L, a11, a12, a13) := by
  obtain ⟨⟨hn, hc, _, hS, hV, hM, hL⟩, hok, e1, e2, e3, e4⟩ := h
  intro post H
  refine pm_jenter oc a3 a4 hn hc hok (fun oc a3 a4 => ⟨1, ?_⟩)
  rw [e1, e2, e3, e4]
  exact pm_jdone hc (H ..)
theorem pm_jk_iv {n c j : Nat} {T S V M L : Nat → Int32} (h : pm_iv n c j S V M L) (hok : pm_ok T n) (wd : Int32) (a5 : Nat → Int32) (a6 : Nat → Int64) :
    ∃ (S' : Nat → Int32) (a6' : Nat → Int64) (V' M' L' : Nat → Int32), pm_set n c T S' V' M' L' ∧ ∀ (oc : Int32) (a3 a4 B a11 a12 a13 : Nat → Int32), pm_jk n c wd T S' a5 a6' V' M' L' (wd, nI n, oc, nI c, nI j, T, S, a3, a4, a5, a6, V, B, M, L, a11, a12, a13) := by
  obtain ⟨hn, hc, hj, hS, hV, hM, hL⟩ := h
  have hS' : pm_r (pm_sec T S n) := pm_sec_r hS n hn
  obtain ⟨a6', V', M', L', h1, h2, h3, h0, H⟩ := pm_jloop wd T (pm_sec T S n) a5 hS' hn hok hc (c - j) j (by omega) a6 (pm_bg j pm_g0 V) (pm_bg j (pm_gM T) M) (pm_bg j pm_gL L) (pm_bg_b pm_g0_b hV) (pm_bg_b (pm_gM_b T) hM) (pm_bg_s pm_gL_s hL)
  have e : pm_bg c pm_g0 V' = V' ∧ pm_bg c (pm_gM T) M' = M' ∧ pm_bg c pm_gL L' = L' := by
    by_cases hc0 : c = 0
    · obtain ⟨q1, q2, q3⟩ := h0 (by omega)
      have ej : j = c := by omega
      subst ej
      rw [q1, q2, q3]
      exact ⟨pm_bg_i _ _ _, pm_bg_i _ _ _, pm_bg_i _ _ _⟩
    · exact ⟨pm_bg_n hc0, pm_bg_n hc0, pm_bg_n hc0⟩
  refine ⟨pm_sec T S n, a6', V', M', L', ⟨⟨hn, hc, Nat.le_refl c, hS', h1, h2, h3⟩, hok, pm_sec_i T S n, e⟩, ?_⟩
  intro oc a3 a4 B a11 a12 a13 post z
  exact pm_jenter oc a3 a4 hn (by omega) hok (fun oc a3 a4 => ⟨c - j + 1, H (fun B => z ..)⟩)
/-- judge() behind one more event -/
theorem pm_jplus {post : Int32 → St1 → Prop} {wd oc : Int32} {T S a3 a4 a5 : Nat → Int32} {a6 : Nat → Int64} {V B M L a11 a12 a13 : Nat → Int32} {n c : Nat} {x r : Int32} {V1 M1 L1 : Nat → Int32} (h : pm_set n c T S V M L) (hc : c < 200) (hx : a5 c = x)
    (H : pm_stp n c x wd T S V M L r V1 M1 L1)
    (K : ∀ (oc : Int32) (a3 a4 B : Nat → Int32), post 1 (wd, nI n, oc, nI (c + 1), nI (c + 1), T, S, a3, a4, a5, pm_put a6 c r, V1, B, M1, L1, a11, a12, a13)) :
    wpX_judge post (wd, nI n, oc, nI (c + 1), nI c, T, S, a3, a4, a5, a6, V, B, M, L, a11, a12, a13) := by
  obtain ⟨⟨hn, _, _, hS, hV, hM, hL⟩, hok, e1, e2, e3, e4⟩ := h
  refine pm_jenter oc a3 a4 hn (by omega) hok (fun oc a3 a4 => ⟨2, ?_⟩)
  rw [e1, e2, e3, e4]
  exact pm_jbody (by omega) (by omega) hx H (fun B => pm_jdone (by omega) (K ..))
end
section
/-! the answers over judged events -/
def pm_v (a6 : Nat → Int64) (t : Nat) : Int32 := if pm_get a6 t = 0 then 0 else 1
theorem pm_v_b (a6 : Nat → Int64) (t : Nat) : pm_v a6 t = 0 ∨ pm_v a6 t = 1 := by
  by_cases h : pm_get a6 t = 0
  · exact Or.inl (if_pos h)
  · exact Or.inr (if_neg h)
theorem pm_was {post : Int32 → Prop} {wd sz oc cn jd : Int32} {T S a3 a4 a5 : Nat → Int32} {a6 : Nat → Int64} {V B M L a11 a12 a13 : Nat → Int32} {t : Nat} (ht : t < 200) (H : post (pm_v a6 t)) : wpX_wasTrue post (wd, sz, oc, cn, jd, T, S, a3, a4, a5, a6, V, B, M, L, a11, a12, a13) (nI t) := by
  unfold wpX_wasTrue
  dsimp only
  rw [pm_sh6 ht, nI_clamp (show t / 64 < 2 ^ 31 by omega)]
  refine ⟨pk_in (t / 64) 4 (by omega), br_c (fun h => ?_) (fun h => ?_)⟩
  · have e : pm_v a6 t = 0 := if_pos h
    rw [e] at H
    exact H
  · have e : pm_v a6 t = 1 := if_neg h
    rw [e] at H
    exact H
/-- a boolean's two roads that come to the same -/
theorem pm_two {x : Int32} {P : Int32 → Prop} (hx : x = 0 ∨ x = 1) (h : P x) : (x = 0 → P 0) ∧ (¬ x = 0 → P 1) := by
  rcases hx with e | e
  · subst e; exact br_t rfl h
  · subst e; exact br_f (by decide) h
theorem pm_at_k {post : Int32 → St1 → Prop} {n c t : Nat} {wd : Int32} {T S a5 : Nat → Int32} {a6 : Nat → Int64} {V M L : Nat → Int32} {wd' sz' oc' jd' : Int32} {T' S' a3' a4' a5' : Nat → Int32} {a6' : Nat → Int64} {V' B' M' L' a11' a12' a13' : Nat → Int32} (hc : c ≤ 200) (ht : t < c)
    (hj : pm_jk n c wd T S a5 a6 V M L (wd', sz', oc', nI c, jd', T', S', a3', a4', a5', a6', V', B', M', L', a11', a12', a13')) (H : ∀ (oc : Int32) (a3 a4 B a11 a12 a13 : Nat → Int32), post (pm_v a6 t) (wd, nI n, oc, nI c, nI c, T, S, a3, a4, a5, a6, V, B, M, L, a11, a12, a13)) :
    wpX_at post (wd', sz', oc', nI c, jd', T', S', a3', a4', a5', a6', V', B', M', L', a11', a12', a13') (nI t) := by
  unfold wpX_at
  refine br_f (nI_pos (by omega)) (pk_le c t (fun q => absurd q (by omega)) (fun _ => hj _ (fun oc a3 a4 B a11 a12 a13 => ?_)))
  refine br_f (by decide) (pm_was (by omega) ?_)
  exact pm_two (P := fun y => post y (wd, nI n, oc, nI c, nI c, T, S, a3, a4, a5, a6, V, B, M, L, a11, a12, a13)) (pm_v_b a6 t) (H ..)
/-- how many of the first t are true -/
def pm_cnt (a6 : Nat → Int64) : Nat → Nat
  | 0 => 0
  | t + 1 => if pm_get a6 t = 0 then pm_cnt a6 t else pm_cnt a6 t + 1
theorem pm_cnt_le (a6 : Nat → Int64) : ∀ t, pm_cnt a6 t ≤ t
  | 0 => Nat.le_refl 0
  | t + 1 => by
    have := pm_cnt_le a6 t
    unfold pm_cnt
    split <;> omega
theorem pm_count_k {post : Int32 → St1 → Prop} {n c : Nat} {wd : Int32} {T S a5 : Nat → Int32} {a6 : Nat → Int64} {V M L : Nat → Int32} {u : St1} (hc : c ≤ 200)
    (hj : pm_jk n c wd T S a5 a6 V M L u) (H : ∀ (oc : Int32) (a3 a4 B a11 a12 a13 : Nat → Int32), post (nI (pm_cnt a6 c)) (wd, nI n, oc, nI c, nI c, T, S, a3, a4, a5, a6, V, B, M, L, a11, a12, a13)) :
    wpX_count post u := by
  obtain ⟨wd', sz', oc', cn', jd', T', S', a3', a4', a5', a6', V', B', M', L', a11', a12', a13'⟩ := u
  unfold wpX_count
  refine hj _ (fun oc a3 a4 B a11 a12 a13 => ?_)
  refine br_f (by decide) ⟨c + 1, ?_⟩
  have key : ∀ d t, t + d = c → wX_count_13 post wd (nI n) oc (nI c) (nI c) T S a3 a4 a5 a6 V B M L a11 a12 a13 (d + 1) (nI (pm_cnt a6 t)) (nI t) := by
    intro d
    induction d with
    | zero =>
      intro t ht
      have e : t = c := by omega
      subst e
      exact pk_le t t (fun _ => H ..) (fun q => absurd q (by omega))
    | succ d ih =>
      intro t ht
      have nx := ih (t + 1) (by omega)
      refine pk_le c t (fun q => absurd q (by omega)) (fun _ => pm_was (by omega) ?_)
      by_cases h : pm_get a6 t = 0
      · have e : pm_v a6 t = 0 := if_pos h
        have e2 : pm_cnt a6 (t + 1) = pm_cnt a6 t := if_pos h
        rw [e2] at nx
        exact br_t e (nm_r (nI_add _ 0) (nm_r (nI_1 t) nx))
      · have e : pm_v a6 t = 1 := if_neg h
        have e2 : pm_cnt a6 (t + 1) = pm_cnt a6 t + 1 := if_neg h
        rw [e2] at nx
        exact br_f (by rw [e]; decide) (nm_r (nI_1 _) (nm_r (nI_1 t) nx))
  exact key c 0 (by omega)
/-- the first of the first t that is false, or -1 -/
def pm_fst (a6 : Nat → Int64) : Nat → Int32
  | 0 => -1
  | t + 1 => if pm_get a6 t = 0 ∧ pm_fst a6 t < 0 then nI t else pm_fst a6 t
theorem pm_fst_t {a6 : Nat → Int64} : ∀ t, (∀ i, i < t → ¬ pm_get a6 i = 0) → pm_fst a6 t = -1
  | 0, _ => rfl
  | t + 1, h => by
    have e : pm_fst a6 (t + 1) = pm_fst a6 t := if_neg (fun z => h t (Nat.lt_succ_self t) z.1)
    rw [e]
    exact pm_fst_t t (fun i hi => h i (Nat.lt_succ_of_lt hi))
theorem pm_fst_f {a6 : Nat → Int64} {s : Nat} (hs : s < 200) (h : ∀ i, i < s → ¬ pm_get a6 i = 0) (h0 : pm_get a6 s = 0) : ∀ d, pm_fst a6 (s + 1 + d) = nI s
  | 0 => by
    have e : pm_fst a6 (s + 1) = nI s := if_pos ⟨h0, by rw [pm_fst_t s h]; decide⟩
    exact e
  | d + 1 => by
    have ih := pm_fst_f hs h h0 d
    have e : pm_fst a6 (s + 1 + d + 1) = pm_fst a6 (s + 1 + d) := if_neg (fun z => by rw [ih] at z; exact nI_pos (by omega) z.2)
    exact e.trans ih
theorem pm_viol_k {post : Int32 → St1 → Prop} {n c : Nat} {wd : Int32} {T S a5 : Nat → Int32} {a6 : Nat → Int64} {V M L : Nat → Int32} {u : St1} (hc : c ≤ 200)
    (hj : pm_jk n c wd T S a5 a6 V M L u) (H : ∀ (oc : Int32) (a3 a4 B a11 a12 a13 : Nat → Int32), post (pm_fst a6 c) (wd, nI n, oc, nI c, nI c, T, S, a3, a4, a5, a6, V, B, M, L, a11, a12, a13)) :
    wpX_violation post u 0 := by
  obtain ⟨wd', sz', oc', cn', jd', T', S', a3', a4', a5', a6', V', B', M', L', a11', a12', a13'⟩ := u
  unfold wpX_violation
  refine br_f (by decide) (hj _ (fun oc a3 a4 B a11 a12 a13 => ?_))
  refine br_f (by decide) ⟨c + 1, ?_⟩
  have key : ∀ d t, t + d = c → (∀ i, i < t → ¬ pm_get a6 i = 0) → wX_violation_15 post wd (nI n) oc (nI c) (nI c) T S a3 a4 a5 a6 V B M L a11 a12 a13 (d + 1) (nI t) := by
    intro d
    induction d with
    | zero =>
      intro t ht h
      have e : t = c := by omega
      subst e
      have H' := H oc a3 a4 B a11 a12 a13
      rw [pm_fst_t t h] at H'
      exact pk_le t t (fun _ => H') (fun q => absurd q (by omega))
    | succ d ih =>
      intro t ht h
      refine pk_le c t (fun q => absurd q (by omega)) (fun _ => pm_was (by omega) ?_)
      by_cases g : pm_get a6 t = 0
      · have e : pm_v a6 t = 0 := if_pos g
        have H' := H oc a3 a4 B a11 a12 a13
        have e2 := pm_fst_f (by omega) h g d
        rw [show t + 1 + d = c by omega] at e2
        rw [e2] at H'
        exact br_t e H'
      · have e : pm_v a6 t = 1 := if_neg g
        exact br_f (by rw [e]; decide) (nm_r (nI_1 t) (ih (t + 1) (by omega) (lt_s h g)))
  exact key c 0 (by omega) (fun i hi => absurd hi (by omega))
/-- the true ones at the end of the first t -/
def pm_str (a6 : Nat → Int64) : Nat → Nat
  | 0 => 0
  | t + 1 => if pm_get a6 t = 0 then 0 else pm_str a6 t + 1
theorem pm_str_k {post : Int32 → St1 → Prop} {n c : Nat} {wd : Int32} {T S a5 : Nat → Int32} {a6 : Nat → Int64} {V M L : Nat → Int32} {u : St1} (hc : c ≤ 200)
    (hj : pm_jk n c wd T S a5 a6 V M L u) (H : ∀ (oc : Int32) (a3 a4 B a11 a12 a13 : Nat → Int32), post (nI (pm_str a6 c)) (wd, nI n, oc, nI c, nI c, T, S, a3, a4, a5, a6, V, B, M, L, a11, a12, a13)) :
    wpX_streak post u := by
  obtain ⟨wd', sz', oc', cn', jd', T', S', a3', a4', a5', a6', V', B', M', L', a11', a12', a13'⟩ := u
  unfold wpX_streak
  refine hj _ (fun oc a3 a4 B a11 a12 a13 => ?_)
  refine br_f (by decide) ⟨c + 1, ?_⟩
  have key : ∀ d t, t + d = c → pm_str a6 c = pm_str a6 d + t → wX_streak_11 post wd (nI n) oc (nI c) (nI c) T S a3 a4 a5 a6 V B M L a11 a12 a13 (d + 1) (nI t) := by
    intro d
    induction d with
    | zero =>
      intro t ht h
      have e : t = c := by omega
      subst e
      have H' := H oc a3 a4 B a11 a12 a13
      rw [h, show pm_str a6 0 + t = t from Nat.zero_add t] at H'
      exact pk_le t t (fun _ => H') (fun q => absurd q (by omega))
    | succ d ih =>
      intro t ht h
      have ea : (nI c - 1) - nI t = nI d := by
        rw [← ht, ← Nat.add_assoc, nI_pred, pk_sub (by omega)]
        congr 1
        omega
      refine pk_le c t (fun q => absurd q (by omega)) (fun _ => ?_)
      rw [ea]
      refine pm_was (by omega) ?_
      by_cases g : pm_get a6 d = 0
      · have e : pm_v a6 d = 0 := if_pos g
        have e2 : pm_str a6 (d + 1) = 0 := if_pos g
        have H' := H oc a3 a4 B a11 a12 a13
        rw [h, e2, Nat.zero_add] at H'
        exact br_t e H'
      · have e : pm_v a6 d = 1 := if_neg g
        have e2 : pm_str a6 (d + 1) = pm_str a6 d + 1 := if_neg g
        exact br_f (by rw [e]; decide) (nm_r (nI_1 t) (ih (t + 1) (by omega) (by rw [h, e2]; omega)))
  exact key c 0 (by omega) rfl
/-- the last value, 0 if there is none -/
def pm_lst (a6 : Nat → Int64) (c : Nat) : Int32 := if c = 0 then 0 else pm_v a6 (c - 1)
theorem pm_now_k {post : Int32 → St1 → Prop} {n c : Nat} {wd oc : Int32} {T S a3 a4 a5 : Nat → Int32} {a6 : Nat → Int64} {V B M L a11 a12 a13 : Nat → Int32} (h : pm_set n c T S V M L)
    (H : ∀ (oc : Int32) (a3 a4 B a11 a12 a13 : Nat → Int32), post (pm_lst a6 c) (wd, nI n, oc, nI c, nI c, T, S, a3, a4, a5, a6, V, B, M, L, a11, a12, a13)) :
    wpX_now post (wd, nI n, oc, nI c, nI c, T, S, a3, a4, a5, a6, V, B, M, L, a11, a12, a13) := by
  have hc : c ≤ 200 := h.1.2.1
  have hj := pm_jk_set h wd a5 a6 oc a3 a4 B a11 a12 a13
  unfold wpX_now
  by_cases e : c = 0
  · subst e
    have t := H oc a3 a4 B a11 a12 a13
    exact br_t (by decide) (And.intro (pm_nb (Or.inl rfl)) t)
  · obtain ⟨m, rfl⟩ : ∃ m, c = m + 1 := ⟨c - 1, by omega⟩
    dsimp only
    rw [nI_pred]
    refine pm_at_k hc (Nat.lt_succ_self m) hj (fun oc a3 a4 B a11 a12 a13 => ?_)
    exact And.intro (pm_nb (pm_v_b a6 m)) (H oc a3 a4 B a11 a12 a13)
/-! an imagined event -/
theorem pm_imagine {post : Int32 → St1 → Prop} {wd oc jd : Int32} {T S a3 a4 a5 : Nat → Int32} {a6 : Nat → Int64} {V B M L a11 a12 a13 : Nat → Int32} {n c : Nat} {x r : Int32} {V1 M1 L1 : Nat → Int32} (hV : pm_b V) (hM : pm_b M) (hL : pm_s L)
    (H : pm_stp n c x wd T S V M L r V1 M1 L1) (K : ∀ (B a11 a12 a13 : Nat → Int32), post r (wd, nI n, oc, nI c, jd, T, S, a3, a4, a5, a6, V, B, M, L, a11, a12, a13)) : wpX_imagine post (wd, nI n, oc, nI c, jd, T, S, a3, a4, a5, a6, V, B, M, L, a11, a12, a13) x := by
  obtain ⟨h1, h2, h3, h4, h5, H⟩ := H
  have bk : ∀ B d i, i + d = 14 → wX_imagine_62 post r wd (nI n) oc (nI c) jd (d + 1) (nI i) T S a3 a4 a5 a6 (pm_fl (pm_fl V a11 14) V1 i) B (pm_fl (pm_fl M a12 14) M1 i) (pm_fl (pm_fl L a13 14) L1 i) (pm_fl V a11 14) (pm_fl M a12 14) (pm_fl L a13 14) := by
    intro B d
    induction d with
    | zero =>
      intro i hi
      have e : i = 14 := by omega
      subst e
      have k := K B (pm_fl V a11 14) (pm_fl M a12 14) (pm_fl L a13 14)
      have e1 : pm_fl (pm_fl V a11 14) V1 14 = V := pm_back (fun i hi => pm_fl_lo hi) (fun i hi => (h5 i hi).1)
      have e2 : pm_fl (pm_fl M a12 14) M1 14 = M := pm_back (fun i hi => pm_fl_lo hi) (fun i hi => (h5 i hi).2.1)
      have e3 : pm_fl (pm_fl L a13 14) L1 14 = L := pm_back (fun i hi => pm_fl_lo hi) (fun i hi => (h5 i hi).2.2)
      rw [e1, e2, e3]
      exact pk_le 14 14 (fun _ => ⟨pm_nb h1, k⟩) (fun q => absurd q (by omega))
    | succ d ih =>
      intro i hi
      have c1 : (nI i).toNatClampNeg = i := nI_clamp (by omega)
      have i14 : vp_in (nI i) 14 := pk_in i 14 (by omega)
      have hi14 : i < 14 := by omega
      have b1 : vp_nar .boolean (pm_fl V a11 14 i) = pm_fl V a11 14 i := by rw [pm_fl_lo hi14]; exact pm_vb (hV i)
      have b2 : vp_nar .boolean (pm_fl M a12 14 i) = pm_fl M a12 14 i := by rw [pm_fl_lo hi14]; exact pm_vb (hM i)
      have b3 : vp_nar .short (pm_fl L a13 14 i) = pm_fl L a13 14 i := by rw [pm_fl_lo hi14]; exact hL i
      have nx := ih (i + 1) (by omega)
      refine pk_le 14 i (fun q => absurd q (by omega)) (fun _ => ?_)
      rw [c1, b1, b2, b3, pm_fl_s, pm_fl_s, pm_fl_s]
      exact ⟨i14, i14, nm_e ⟨i14, i14, nm_e ⟨i14, i14, nm_e (nm_r (nI_1 i) nx)⟩⟩⟩
  have key : ∀ d i, i + d = 14 → wX_imagine_2 post x wd (nI n) oc (nI c) jd (d + 1) (nI i) T S a3 a4 a5 a6 V B M L (pm_fl V a11 i) (pm_fl M a12 i) (pm_fl L a13 i) := by
    intro d
    induction d with
    | zero =>
      intro i hi
      have e : i = 14 := by omega
      subst e
      refine pk_le 14 14 (fun _ => H (fun B => ?_)) (fun q => absurd q (by omega))
      have k := bk B 14 0 (by omega)
      rw [pm_fl_0 _ V1, pm_fl_0 _ M1, pm_fl_0 _ L1] at k
      exact ⟨15, k⟩
    | succ d ih =>
      intro i hi
      have c1 : (nI i).toNatClampNeg = i := nI_clamp (by omega)
      have i14 : vp_in (nI i) 14 := pk_in i 14 (by omega)
      have nx := ih (i + 1) (by omega)
      refine pk_le 14 i (fun q => absurd q (by omega)) (fun _ => ?_)
      rw [c1, pm_vb (hV i), pm_vb (hM i), hL i, pm_fl_s, pm_fl_s, pm_fl_s]
      exact ⟨i14, i14, nm_e ⟨i14, i14, nm_e ⟨i14, i14, nm_e (nm_r (nI_1 i) nx)⟩⟩⟩
  have k0 := key 14 0 (by omega)
  rw [pm_fl_0, pm_fl_0, pm_fl_0] at k0
  exact ⟨15, k0⟩
theorem pm_would {post : Int32 → St1 → Prop} {wd oc : Int32} {T S a3 a4 a5 : Nat → Int32} {a6 : Nat → Int64} {V B M L a11 a12 a13 : Nat → Int32} {n c s : Nat} {r : Int32} {V1 M1 L1 : Nat → Int32} (h : pm_set n c T S V M L) (hs : s < 16)
    (H : pm_stp n c (nI s) wd T S V M L r V1 M1 L1) (K : ∀ (oc : Int32) (a3 a4 B a11 a12 a13 : Nat → Int32), post r (wd, nI n, oc, nI c, nI c, T, S, a3, a4, a5, a6, V, B, M, L, a11, a12, a13)) :
    wpX_wouldHold post (wd, nI n, oc, nI c, nI c, T, S, a3, a4, a5, a6, V, B, M, L, a11, a12, a13) (nI s) := by
  have hj := pm_jk_set h wd a5 a6 oc a3 a4 B a11 a12 a13
  unfold wpX_wouldHold
  refine br_f (nI_pos (by omega)) (pk_lt 15 s (fun q => absurd q (by omega)) (fun _ => hj _ (fun oc a3 a4 B a11 a12 a13 => ?_)))
  refine br_f (by decide) (pm_imagine h.1.2.2.2.2.1 h.1.2.2.2.2.2.1 h.1.2.2.2.2.2.2 H (fun B a11 a12 a13 => ?_))
  exact pm_two (P := fun y => post y (wd, nI n, oc, nI c, nI c, T, S, a3, a4, a5, a6, V, B, M, L, a11, a12, a13)) H.1 (K ..)
/-- how many of the first s sets of facts would hold -/
def pm_cf (F : Int32 → Int32) : Nat → Nat
  | 0 => 0
  | s + 1 => if F (nI s) = 0 then pm_cf F s else pm_cf F s + 1
def pm_all (n c : Nat) (wd : Int32) (T S V M L : Nat → Int32) (F : Int32 → Int32) : Prop := ∀ x, ∃ V1 M1 L1 : Nat → Int32, pm_stp n c x wd T S V M L (F x) V1 M1 L1
theorem pm_all_ex {n c : Nat} {T S V M L : Nat → Int32} (h : pm_set n c T S V M L) (wd : Int32) : ∃ F, pm_all n c wd T S V M L F := by
  obtain ⟨⟨hn, hc, _, hS, hV, hM, hL⟩, hok, _⟩ := h
  have E := fun x => pm_stp_ex c x wd hS hV hM hL hn hok
  exact ⟨fun x => Classical.choose (E x), fun x => Classical.choose_spec (E x)⟩
theorem pm_allowed {post : Int32 → St1 → Prop} {wd oc : Int32} {T S a3 a4 a5 : Nat → Int32} {a6 : Nat → Int64} {V B M L a11 a12 a13 : Nat → Int32} {n c : Nat} {F : Int32 → Int32} (h : pm_set n c T S V M L) (hF : pm_all n c wd T S V M L F)
    (K : ∀ (oc : Int32) (a3 a4 B a11 a12 a13 : Nat → Int32), post (nI (pm_cf F 16)) (wd, nI n, oc, nI c, nI c, T, S, a3, a4, a5, a6, V, B, M, L, a11, a12, a13)) :
    wpX_allowed post (wd, nI n, oc, nI c, nI c, T, S, a3, a4, a5, a6, V, B, M, L, a11, a12, a13) := by
  have key : ∀ d s, s + d = 16 → ∀ (oc : Int32) (a3 a4 B a11 a12 a13 : Nat → Int32), wX_allowed_4 post (d + 1) (nI (pm_cf F s)) (nI s) wd (nI n) oc (nI c) (nI c) T S a3 a4 a5 a6 V B M L a11 a12 a13 := by
    intro d
    induction d with
    | zero =>
      intro s hs oc a3 a4 B a11 a12 a13
      have e : s = 16 := by omega
      subst e
      exact pk_le 16 16 (fun _ => K ..) (fun q => absurd q (by omega))
    | succ d ih =>
      intro s hs oc a3 a4 B a11 a12 a13
      obtain ⟨V1, M1, L1, H⟩ := hF (nI s)
      refine pk_le 16 s (fun q => absurd q (by omega)) (fun _ => pm_would h (by omega) H (fun oc a3 a4 B a11 a12 a13 => ?_))
      have nx := ih (s + 1) (by omega) oc a3 a4 B a11 a12 a13
      by_cases g : F (nI s) = 0
      · have e2 : pm_cf F (s + 1) = pm_cf F s := if_pos g
        rw [e2] at nx
        exact br_t g (nm_r (nI_add _ 0) (nm_r (nI_1 s) nx))
      · have e2 : pm_cf F (s + 1) = pm_cf F s + 1 := if_neg g
        rw [e2] at nx
        exact br_f g (nm_r (nI_1 _) (nm_r (nI_1 s) nx))
  exact ⟨17, key 16 0 (by omega) oc a3 a4 B a11 a12 a13⟩
end
section
/-! the law's events() -/
theorem pm_nle0 {x : Int32} (h : ¬ 0 ≤ x) : x < 0 := by
  rw [Int32.le_iff_toInt_le] at h
  rw [Int32.lt_iff_toInt_lt]
  omega
theorem pm_le0 {x : Int32} (h : 0 ≤ x) : ¬ x < 0 := by
  rw [Int32.le_iff_toInt_le] at h
  rw [Int32.lt_iff_toInt_lt]
  omega
theorem pm_ev98 {post : Int32 → St1 → Prop} {n c : Nat} {wd : Int32} {T S a5 : Nat → Int32} {a6 : Nat → Int64} {V M L : Nat → Int32} {wd' sz' oc' cn' jd' : Int32} {T' S' a3' a4' a5' : Nat → Int32} {a6' : Nat → Int64} {V' B' M' L' a11' a12' a13' : Nat → Int32} (h : pm_set n c T S V M L)
    (hj : pm_jk n c wd T S a5 a6 V M L (wd', sz', oc', cn', jd', T', S', a3', a4', a5', a6', V', B', M', L', a11', a12', a13')) (H : ∀ (oc : Int32) (a3 a4 B a11 a12 a13 : Nat → Int32), post 1 (wd, nI n, oc, nI c, nI c, T, S, a3, a4, a5, a6, V, B, M, L, a11, a12, a13)) :
    wL_events_98 post (nI (pm_cnt a6 c)) (pm_fst a6 c) (nI (pm_str a6 c)) (pm_lst a6 c) wd' sz' oc' cn' jd' T' S' a3' a4' a5' a6' V' B' M' L' a11' a12' a13' := by
  have hc : c ≤ 200 := h.1.2.1
  unfold wL_events_98
  refine pm_count_k hc hj (fun oc a3 a4 B a11 a12 a13 => ?_)
  refine br_t rfl (pm_viol_k hc (pm_jk_set h wd a5 a6 oc a3 a4 B a11 a12 a13) (fun oc a3 a4 B a11 a12 a13 => ?_))
  refine br_t rfl (pm_str_k hc (pm_jk_set h wd a5 a6 oc a3 a4 B a11 a12 a13) (fun oc a3 a4 B a11 a12 a13 => ?_))
  refine br_t rfl (pm_now_k h (fun oc a3 a4 B a11 a12 a13 => ?_))
  exact br_t rfl (H ..)
theorem pm_ev_step {post : Int32 → St1 → Prop} {J : Int32 → Int32 → Int32 → Int32 → Int32 → Int32 → Int32 → Int32 → Int32 → (Nat → Int32) → (Nat → Int32) → (Nat → Int32) → (Nat → Int32) → (Nat → Int32) → (Nat → Int64) → (Nat → Int32) → (Nat → Int32) → (Nat → Int32) → (Nat → Int32) → (Nat → Int32) → (Nat → Int32) → (Nat → Int32) → Prop} {wd sz oc cn jd : Int32} {T S a3 a4 a5 : Nat → Int32} {a6 : Nat → Int64} {V B M L a11 a12 a13 : Nat → Int32} {x1 : Int32} {b6 : Nat → Int64} {t : Nat}
    (H : J (nI (pm_cnt b6 (t + 1))) (pm_fst b6 (t + 1)) (nI (pm_str b6 (t + 1))) (nI (t + 1)) wd sz oc cn jd T S a3 a4 a5 a6 V B M L a11 a12 a13) :
    (pm_v b6 t = 0 → wL_events_41 post J x1 (pm_fst b6 t) (nI (pm_str b6 t)) (nI t) (pm_v b6 t) (nI (pm_cnt b6 t)) wd sz oc cn jd T S a3 a4 a5 a6 V B M L a11 a12 a13) ∧
    (¬ pm_v b6 t = 0 → wL_events_41 post J x1 (pm_fst b6 t) (nI (pm_str b6 t)) (nI t) (pm_v b6 t) (nI (pm_cnt b6 t) + 1) wd sz oc cn jd T S a3 a4 a5 a6 V B M L a11 a12 a13) := by
  by_cases g : pm_get b6 t = 0
  · have e : pm_v b6 t = 0 := if_pos g
    have e1 : pm_cnt b6 (t + 1) = pm_cnt b6 t := if_pos g
    have e2 : pm_str b6 (t + 1) = 0 := if_pos g
    rw [e1, e2] at H
    refine br_t e (br_t e ?_)
    by_cases q : 0 ≤ pm_fst b6 t
    · have e3 : pm_fst b6 (t + 1) = pm_fst b6 t := if_neg (fun z => pm_le0 q z.2)
      rw [e3] at H
      exact br_t q (br_t e (nm_r (nI_1 t) H))
    · have e3 : pm_fst b6 (t + 1) = nI t := if_pos ⟨g, pm_nle0 q⟩
      rw [e3] at H
      exact br_f q (br_t e (nm_r (nI_1 t) H))
  · have e : pm_v b6 t = 1 := if_neg g
    have e' : ¬ pm_v b6 t = 0 := by rw [e]; decide
    have e1 : pm_cnt b6 (t + 1) = pm_cnt b6 t + 1 := if_neg g
    have e2 : pm_str b6 (t + 1) = pm_str b6 t + 1 := if_neg g
    have e3 : pm_fst b6 (t + 1) = pm_fst b6 t := if_neg (fun z => g z.1)
    rw [e1, e2, e3] at H
    rw [nI_1]
    exact br_f e' (br_f e' (br_f e' (nm_r (nI_1 _) (nm_r (nI_1 t) H))))
theorem pm_events_k {post : Int32 → St1 → Prop} {wd oc : Int32} {T S a3 a4 a5 : Nat → Int32} {a6 : Nat → Int64} {V B M L a11 a12 a13 : Nat → Int32} {n c j : Nat} (h : pm_iv n c j S V M L) (hok : pm_ok T n)
    (H : ∀ (S : Nat → Int32) (a6 : Nat → Int64) (V M L : Nat → Int32), pm_set n c T S V M L → ∀ (oc : Int32) (a3 a4 B a11 a12 a13 : Nat → Int32), post 1 (wd, nI n, oc, nI c, nI c, T, S, a3, a4, a5, a6, V, B, M, L, a11, a12, a13)) :
    wpL_events post (wd, nI n, oc, nI c, nI j, T, S, a3, a4, a5, a6, V, B, M, L, a11, a12, a13) := by
  obtain ⟨S', a6', V', M', L', hs, hj⟩ := pm_jk_iv h hok wd a5 a6
  have hj0 := hj oc a3 a4 B a11 a12 a13
  have hc : c ≤ 200 := hs.1.2.1
  have H' := H S' a6' V' M' L' hs
  by_cases c0 : c = 0
  · subst c0
    refine (⟨1, ?_⟩ : ∃ fu, wL_events_15 post (nI 0) fu 0 (-1) 0 0 wd (nI n) oc (nI 0) (nI j) T S a3 a4 a5 a6 V B M L a11 a12 a13)
    exact br_t (by decide) (br_t (by decide) (pm_ev98 hs hj0 H'))
  · obtain ⟨m, rfl⟩ : ∃ m, c = m + 1 := ⟨c - 1, by omega⟩
    have key : ∀ d t, t + d = m + 1 → ∀ (oc : Int32) (a3 a4 B a11 a12 a13 : Nat → Int32), wL_events_15 post (nI (m + 1)) (d + 1) (nI (pm_cnt a6' t)) (pm_fst a6' t) (nI (pm_str a6' t)) (nI t) wd (nI n) oc (nI (m + 1)) (nI (m + 1)) T S' a3 a4 a5 a6' V' B M' L' a11 a12 a13 := by
      intro d
      induction d with
      | zero =>
        intro t ht oc a3 a4 B a11 a12 a13
        have e : t = m + 1 := by omega
        subst e
        refine pk_le (m + 1) (m + 1) (fun _ => ?_) (fun q => absurd q (by omega))
        refine pk_le (m + 1) 0 (fun q => absurd q (by omega)) (fun _ => ?_)
        rw [nI_pred]
        refine pm_at_k hc (Nat.lt_succ_self m) (pm_jk_set hs wd a5 a6' oc a3 a4 B a11 a12 a13) (fun oc a3 a4 B a11 a12 a13 => ?_)
        have t := pm_ev98 hs (pm_jk_set hs wd a5 a6' oc a3 a4 B a11 a12 a13) H'
        have el : pm_lst a6' (m + 1) = pm_v a6' m := if_neg (by omega)
        rw [el] at t
        exact pm_two (P := fun y => wL_events_98 post (nI (pm_cnt a6' (m + 1))) (pm_fst a6' (m + 1)) (nI (pm_str a6' (m + 1))) y wd (nI n) oc (nI (m + 1)) (nI (m + 1)) T S' a3 a4 a5 a6' V' B M' L' a11 a12 a13) (pm_v_b a6' m) t
      | succ d ih =>
        intro t ht oc a3 a4 B a11 a12 a13
        refine pk_le (m + 1) t (fun q => absurd q (by omega)) (fun _ => ?_)
        refine pm_at_k hc (by omega) (pm_jk_set hs wd a5 a6' oc a3 a4 B a11 a12 a13) (fun oc a3 a4 B a11 a12 a13 => ?_)
        exact pm_ev_step (ih (t + 1) (by omega) oc a3 a4 B a11 a12 a13)
    refine (⟨m + 1 + 1, ?_⟩ : ∃ fu, wL_events_15 post (nI (m + 1)) fu 0 (-1) 0 0 wd (nI n) oc (nI (m + 1)) (nI j) T S a3 a4 a5 a6 V B M L a11 a12 a13)
    refine pk_le (m + 1) 0 (fun q => absurd q (by omega)) (fun _ => ?_)
    refine pm_at_k (t := 0) hc (by omega) hj0 (fun oc a3 a4 B a11 a12 a13 => ?_)
    exact pm_ev_step (t := 0) (key m 1 (by omega) oc a3 a4 B a11 a12 a13)
end
section
/-! the law's next() -/
theorem pm_i8 : ∀ q, q < 16 → (nI q).toInt8.toInt32 = nI q := by decide +kernel
theorem pm_event {post : Int32 → St1 → Prop} {wd sz oc jd : Int32} {T S a3 a4 a5 : Nat → Int32} {a6 : Nat → Int64} {V B M L a11 a12 a13 : Nat → Int32} {c s : Nat} (hs : s < 16) (hc : c ≤ 200) (H1 : c < 200 → post (nI c) (wd, sz, oc, nI (c + 1), jd, T, S, a3, a4, upd a5 c (nI s), a6, V, B, M, L, a11, a12, a13)) (H2 : c = 200 → post (-2) (wd, sz, oc, nI c, jd, T, S, a3, a4, a5, a6, V, B, M, L, a11, a12, a13)) :
    wpX_event post (wd, sz, oc, nI c, jd, T, S, a3, a4, a5, a6, V, B, M, L, a11, a12, a13) (nI s) := by
  unfold wpX_event
  dsimp only
  rw [pm_i8 s hs, nI_clamp (show c < 2 ^ 31 by omega)]
  refine br_f (nI_pos (by omega)) (pk_le s 15 (fun _ => ?_) (fun q => absurd q (by omega)))
  refine pk_lt c 200 (fun g => ⟨pk_in c 200 g, nm_e (nm_r (nI_1 c) ?_)⟩) (fun g => H2 (by omega))
  rw [nI_pred]
  exact H1 g
theorem pm_undo {post : Int32 → St1 → Prop} {wd sz oc : Int32} {T S a3 a4 a5 : Nat → Int32} {a6 : Nat → Int64} {V B M L a11 a12 a13 : Nat → Int32} {c j : Nat} (hc : c ≤ 200) (hj : j ≤ c) (H : ∀ (r : Int32) (c j : Nat), c ≤ 200 → j ≤ c → post r (wd, sz, oc, nI c, nI j, T, S, a3, a4, a5, a6, V, B, M, L, a11, a12, a13)) :
    wpX_undo post (wd, sz, oc, nI c, nI j, T, S, a3, a4, a5, a6, V, B, M, L, a11, a12, a13) := by
  unfold wpX_undo
  refine pk_eq c 0 (fun _ => H _ c j hc hj) (fun e => ?_)
  obtain ⟨m, rfl⟩ : ∃ m, c = m + 1 := ⟨c - 1, by omega⟩
  refine nm_r (nI_pred m) (pk_le j m (fun g => H _ m j (by omega) g) (fun g => H _ m 0 (by omega) (Nat.zero_le m)))
theorem pm_now_p {post : Int32 → St1 → Prop} {wd oc : Int32} {T S a3 a4 a5 : Nat → Int32} {a6 : Nat → Int64} {V B M L a11 a12 a13 : Nat → Int32} {n c : Nat} {x r : Int32} {V1 M1 L1 : Nat → Int32} (h : pm_set n c T S V M L) (hc : c < 200) (hx : a5 c = x)
    (H : pm_stp n c x wd T S V M L r V1 M1 L1)
    (K : ∀ (oc : Int32) (a3 a4 B : Nat → Int32), post r (wd, nI n, oc, nI (c + 1), nI (c + 1), T, S, a3, a4, a5, pm_put a6 c r, V1, B, M1, L1, a11, a12, a13)) :
    wpX_now post (wd, nI n, oc, nI (c + 1), nI c, T, S, a3, a4, a5, a6, V, B, M, L, a11, a12, a13) := by
  have hr := H.1
  have ev : pm_v (pm_put a6 c r) c = r := by
    have g := pm_getp (a6 := a6) (r := r) hc
    rcases hr with e | e
    · rw [e] at g ⊢
      exact if_pos (g.mpr rfl)
    · rw [e] at g ⊢
      exact if_neg (fun z => absurd (g.mp z) (by decide))
  unfold wpX_now
  dsimp only
  rw [nI_pred]
  refine br_f (nI_pos (by omega)) (pk_le (c + 1) c (fun q => absurd q (by omega)) (fun _ => pm_jplus h hc hx H (fun oc a3 a4 B => ?_)))
  refine br_f (by decide) (pm_was hc ?_)
  rw [ev]
  refine pm_two (P := fun y => narrow .boolean (.int y) = .int y ∧ post y (wd, nI n, oc, nI (c + 1), nI (c + 1), T, S, a3, a4, a5, pm_put a6 c r, V1, B, M1, L1, a11, a12, a13)) hr ⟨pm_nb hr, K ..⟩
theorem pm_next51 {post : Int32 → St1 → Prop} {wd oc : Int32} {T S a3 a4 a5 : Nat → Int32} {a6 : Nat → Int64} {V B M L a11 a12 a13 : Nat → Int32} {n c s : Nat} {F : Int32 → Int32} (h : pm_set n c T S V M L) (hF : pm_all n c wd T S V M L F) (hs : s < 16)
    (K : ∀ (n c j : Nat) (wd oc : Int32) (T S a3 a4 a5 : Nat → Int32) (a6 : Nat → Int64) (V B M L a11 a12 a13 : Nat → Int32), pm_iv n c j S V M L → post 1 (wd, nI n, oc, nI c, nI j, T, S, a3, a4, a5, a6, V, B, M, L, a11, a12, a13)) :
    wL_next_51 post (nI s) (F (nI s)) 1 wd (nI n) oc (nI c) (nI c) T S a3 a4 a5 a6 V B M L a11 a12 a13 := by
  obtain ⟨⟨hn, hc, _, hS, hV, hM, hL⟩, hok, _⟩ := id h
  obtain ⟨V1, M1, L1, H⟩ := hF (nI s)
  obtain ⟨k1, k2, k3, k4, _⟩ := id H
  unfold wL_next_51
  refine pm_event hs hc (fun g => ?_) (fun g => ?_)
  · refine pm_now_p h g pk_us H (fun oc a3 a4 B => ?_)
    refine br_f (nI_pos (by omega)) (pm_undo (by omega) (Nat.le_refl _) (fun r c' j' hc' hj' => ?_))
    exact br_f (by decide) (br_f (nI_pos (by omega)) (br_t rfl (K n c' j' _ _ _ _ _ _ _ _ _ _ _ _ _ _ _ ⟨hn, hc', hj', hS, k2, k3, k4⟩)))
  · refine pm_now_k h (fun oc a3 a4 B a11 a12 a13 => ?_)
    exact br_t (by decide) (br_f (by decide) (br_t (by decide) (K n c c _ _ _ _ _ _ _ _ _ _ _ _ _ _ _ h.1)))
theorem pm_next_k {post : Int32 → St1 → Prop} {wd oc : Int32} {T S a3 a4 a5 : Nat → Int32} {a6 : Nat → Int64} {V B M L a11 a12 a13 : Nat → Int32} {n c s : Nat} (h : pm_set n c T S V M L) (hs : s < 16)
    (K : ∀ (n c j : Nat) (wd oc : Int32) (T S a3 a4 a5 : Nat → Int32) (a6 : Nat → Int64) (V B M L a11 a12 a13 : Nat → Int32), pm_iv n c j S V M L → post 1 (wd, nI n, oc, nI c, nI j, T, S, a3, a4, a5, a6, V, B, M, L, a11, a12, a13)) :
    wpL_next post (wd, nI n, oc, nI c, nI c, T, S, a3, a4, a5, a6, V, B, M, L, a11, a12, a13) (nI s) := by
  obtain ⟨F, hF⟩ := pm_all_ex h wd
  have key : ∀ d q, q + d = 16 → ∀ (oc : Int32) (a3 a4 B a11 a12 a13 : Nat → Int32), wL_next_4 post (nI s) (d + 1) (nI (pm_cf F q)) (nI q) wd (nI n) oc (nI c) (nI c) T S a3 a4 a5 a6 V B M L a11 a12 a13 := by
    intro d
    induction d with
    | zero =>
      intro q hq oc a3 a4 B a11 a12 a13
      have e : q = 16 := by omega
      subst e
      obtain ⟨V1, M1, L1, H⟩ := hF (nI s)
      refine pk_le 16 16 (fun _ => pm_would h hs H (fun oc a3 a4 B a11 a12 a13 => ?_)) (fun z => absurd z (by omega))
      refine pm_allowed h hF (fun oc a3 a4 B a11 a12 a13 => ?_)
      exact br_t rfl (pm_next51 h hF hs K)
    | succ d ih =>
      intro q hq oc a3 a4 B a11 a12 a13
      obtain ⟨V1, M1, L1, H⟩ := hF (nI q)
      refine pk_le 16 q (fun z => absurd z (by omega)) (fun _ => pm_would h (by omega) H (fun oc a3 a4 B a11 a12 a13 => ?_))
      have nx := ih (q + 1) (by omega) oc a3 a4 B a11 a12 a13
      by_cases g : F (nI q) = 0
      · have e2 : pm_cf F (q + 1) = pm_cf F q := if_pos g
        rw [e2] at nx
        exact br_t g (nm_r (nI_1 q) nx)
      · have e2 : pm_cf F (q + 1) = pm_cf F q + 1 := if_neg g
        rw [e2] at nx
        exact br_f g (nm_r (nI_1 _) (nm_r (nI_1 q) nx))
  exact ⟨17, key 16 0 (by omega) oc a3 a4 B a11 a12 a13⟩
end
section
/-! the law -/
theorem pm_pick {post : Int32 → Prop} (p0 p1 : Int32) (K : ∀ r, post r) : wpL_pick post () p0 p1 :=
  nm_e (br_c (fun _ => K _) (fun _ => br_c (fun _ => K _) (fun _ => br_c (fun _ => K _) (fun _ => br_c (fun _ => K _) (fun _ => K _)))))
theorem pm_feed {post : Int32 → St1 → Prop} {wd oc : Int32} {T S a3 a4 a5 : Nat → Int32} {a6 : Nat → Int64} {V B M L a11 a12 a13 : Nat → Int32} {n c j : Nat} (p0 : Int32) (h : pm_iv n c j S V M L)
    (K : ∀ (r : Int32) (n c j : Nat) (wd oc : Int32) (T S a3 a4 a5 : Nat → Int32) (a6 : Nat → Int64) (V B M L a11 a12 a13 : Nat → Int32), pm_iv n c j S V M L → post r (wd, nI n, oc, nI c, nI j, T, S, a3, a4, a5, a6, V, B, M, L, a11, a12, a13)) :
    wpX_feed post (wd, nI n, oc, nI c, nI j, T, S, a3, a4, a5, a6, V, B, M, L, a11, a12, a13) p0 := by
  obtain ⟨hn, hc, hj, hS, hV, hM, hL⟩ := id h
  have hS' : pm_r (pm_sec T S n) := pm_sec_r hS n hn
  unfold wpX_feed
  refine br_c (fun _ => K _ n c j _ _ _ _ _ _ _ _ _ _ _ _ _ _ _ h) (fun _ => br_c (fun _ => K _ n c j _ _ _ _ _ _ _ _ _ _ _ _ _ _ _ h) (fun _ => ?_))
  refine pk_le 14 n (fun _ => K _ n c j _ _ _ _ _ _ _ _ _ _ _ _ _ _ _ h) (fun hn' => ?_)
  refine pm_complete oc a3 a4 hn (fun _ oc a3 a4 => ?_) (fun _ oc a3 a4 => ?_)
  · exact br_f (by decide) (K _ n c j _ _ _ _ _ _ _ _ _ _ _ _ _ _ _ ⟨hn, hc, hj, hS', hV, hM, hL⟩)
  · exact br_t rfl ⟨pk_in n 14 hn', nm_e (nm_r (nI_1 n) (K _ (n + 1) c 0 _ _ _ _ _ _ _ _ _ _ _ _ _ _ _ ⟨hn', hc, Nat.zero_le c, hS', hV, hM, hL⟩))⟩
theorem pm_back_k {post : Int32 → St1 → Prop} {wd oc : Int32} {T S a3 a4 a5 : Nat → Int32} {a6 : Nat → Int64} {V B M L a11 a12 a13 : Nat → Int32} {n c j : Nat} (h : pm_iv n c j S V M L)
    (K : ∀ (r : Int32) (n c j : Nat) (wd oc : Int32) (T S a3 a4 a5 : Nat → Int32) (a6 : Nat → Int64) (V B M L a11 a12 a13 : Nat → Int32), pm_iv n c j S V M L → post r (wd, nI n, oc, nI c, nI j, T, S, a3, a4, a5, a6, V, B, M, L, a11, a12, a13)) :
    wpX_back post (wd, nI n, oc, nI c, nI j, T, S, a3, a4, a5, a6, V, B, M, L, a11, a12, a13) := by
  obtain ⟨hn, hc, hj, hS, hV, hM, hL⟩ := id h
  unfold wpX_back
  refine pk_eq n 0 (fun _ => K _ n c j _ _ _ _ _ _ _ _ _ _ _ _ _ _ _ h) (fun e => ?_)
  obtain ⟨m, rfl⟩ : ∃ m, n = m + 1 := ⟨n - 1, by omega⟩
  exact nm_r (nI_pred m) ⟨pk_in m 14 (by omega), K _ m c 0 _ _ _ _ _ _ _ _ _ _ _ _ _ _ _ ⟨by omega, hc, Nat.zero_le c, hS, hV, hM, hL⟩⟩
theorem pm_144 {J : Int32 → Int32 → Int32 → Int32 → Int32 → Int32 → Int32 → (Nat → Int32) → (Nat → Int32) → (Nat → Int32) → (Nat → Int32) → (Nat → Int32) → (Nat → Int64) → (Nat → Int32) → (Nat → Int32) → (Nat → Int32) → (Nat → Int32) → (Nat → Int32) → (Nat → Int32) → (Nat → Int32) → Prop} {ln kc ks : Nat} {xs : Nat → Int32} {wd oc : Int32} {T S a3 a4 a5 : Nat → Int32} {a6 : Nat → Int64} {V B M L a11 a12 a13 : Nat → Int32} {n c j k s : Nat} {x2 : Int32} (hs : s < 16) (h : pm_iv n c j S V M L)
    (hJ : ∀ (x2 : Int32) (n c j : Nat) (wd oc : Int32) (T S a3 a4 a5 : Nat → Int32) (a6 : Nat → Int64) (V B M L a11 a12 a13 : Nat → Int32), pm_iv n c j S V M L → J x2 (nI (k + 1)) wd (nI n) oc (nI c) (nI j) T S a3 a4 a5 a6 V B M L a11 a12 a13) :
    wL_law_144 (fun r => r = 1) ln xs J x2 (nI k) (nI s) kc ks wd (nI n) oc (nI c) (nI j) T S a3 a4 a5 a6 V B M L a11 a12 a13 := by
  obtain ⟨hn, hc, hj, hS, hV, hM, hL⟩ := id h
  have hS' : pm_r (pm_sec T S n) := pm_sec_r hS n hn
  have h' : pm_iv n c j (pm_sec T S n) V M L := ⟨hn, hc, hj, hS', hV, hM, hL⟩
  unfold wL_law_144
  refine pm_complete oc a3 a4 hn (fun hok oc a3 a4 => ?_) (fun _ oc a3 a4 => ?_)
  · refine br_f (by decide) (pm_events_k h' hok (fun S a6 V M L hset oc a3 a4 B a11 a12 a13 => ?_))
    refine br_f (by decide) (pm_next_k hset hs (fun n c j wd oc T S a3 a4 a5 a6 V B M L a11 a12 a13 hi => ?_))
    exact br_f (by decide) (nm_r (nI_1 k) (hJ x2 n c j wd oc T S a3 a4 a5 a6 V B M L a11 a12 a13 hi))
  · exact br_t rfl (nm_r (nI_1 k) (hJ x2 n c j _ _ _ _ _ _ _ _ _ _ _ _ _ _ _ h'))
theorem pm_loop (xs : Nat → Int32) (ln kc ks : Nat) (hln : ln ≤ 260) : ∀ d k, ln ≤ k + d → k ≤ 260 → ∀ (x2 : Int32) (n c j : Nat) (wd oc : Int32) (T S a3 a4 a5 : Nat → Int32) (a6 : Nat → Int64) (V B M L a11 a12 a13 : Nat → Int32), pm_iv n c j S V M L →
    wL_law_27 (fun r => r = 1) ln xs kc ks (d + 1) x2 (nI k) wd (nI n) oc (nI c) (nI j) T S a3 a4 a5 a6 V B M L a11 a12 a13 := by
  intro d
  induction d with
  | zero =>
    intro k hk hk2 x2 n c j wd oc T S a3 a4 a5 a6 V B M L a11 a12 a13 h
    exact pk_le ln k (fun _ => rfl) (fun q => absurd q (by omega))
  | succ d ih =>
    intro k hk hk2 x2 n c j wd oc T S a3 a4 a5 a6 V B M L a11 a12 a13 h
    obtain ⟨hn, hc, hj, hS, hV, hM, hL⟩ := id h
    refine pk_le ln k (fun _ => rfl) (fun q => ?_)
    have iL : vp_in (nI k) ln := pk_in k ln q
    have hJ := ih (k + 1) (by omega) (by omega)
    obtain ⟨s, hs, es⟩ := pk_andE ((xs (nI k).toNatClampNeg) >>> ((12 : Int32) &&& 31)) (m := 15) 4 (by decide)
    refine ⟨iL, nm_e ⟨iL, nm_r es ?_⟩⟩
    refine br_c (fun _ => br_c (fun _ => br_c (fun _ => ?_) (fun _ => ?_)) (fun _ => ?_)) (fun _ => ⟨iL, ?_⟩)
    · exact pm_undo hc hj (fun r c' j' hc' hj' => pm_144 hs ⟨hn, hc', hj', hS, hV, hM, hL⟩ hJ)
    · exact pm_event hs hc (fun g => pm_144 hs ⟨hn, g, by omega, hS, hV, hM, hL⟩ hJ) (fun g => pm_144 hs h hJ)
    · refine pm_back_k h (fun r n c j wd oc T S a3 a4 a5 a6 V B M L a11 a12 a13 hi => ?_)
      exact br_c (fun _ => pm_144 hs hi hJ) (fun _ => pm_144 hs hi hJ)
    · refine pm_pick _ _ (fun r => pm_feed r h (fun r n c j wd oc T S a3 a4 a5 a6 V B M L a11 a12 a13 hi => ?_))
      exact br_c (fun _ => pm_144 hs hi hJ) (fun _ => pm_144 hs hi hJ)
theorem pm_19 (xs : Nat → Int32) (ln : Nat) (hln : ln ≤ 260) (z0 : Int32) : wL_law_19 (fun r => r = 1) ln xs z0 1 18 0 0 0 0 0 := by
  have iv0 : pm_iv 0 0 0 (fun _ => 0) (fun _ => 0) (fun _ => 0) (fun _ => 0) :=
    ⟨by decide, by decide, by decide, fun _ => ⟨0, by decide, rfl⟩, fun _ => Or.inl rfl, fun _ => Or.inl rfl, fun _ => by show vp_nar .short 0 = 0; decide⟩
  refine ⟨13, 362, by decide, by decide, ?_⟩
  refine ⟨by decide, by decide, by decide, by decide, by decide, by decide, by decide, by decide, by decide, by decide, by decide, by decide, by decide, by decide, by decide, by decide, by decide, by decide, by decide, by decide, by decide, by decide, by decide, by decide, by decide, by decide, ?_⟩
  exact br_c (fun _ => br_c (fun _ => ⟨ln + 1, pm_loop xs ln _ _ hln ln 1 (by omega) (by omega) 0 0 0 0 _ _ _ _ _ _ _ _ _ _ _ _ _ _ _ iv0⟩) (fun _ => ⟨ln + 1, pm_loop xs ln _ _ hln ln 1 (by omega) (by omega) 0 0 0 0 _ _ _ _ _ _ _ _ _ _ _ _ _ _ _ iv0⟩)) (fun _ => ⟨ln + 1, pm_loop xs ln _ _ hln ln 1 (by omega) (by omega) 0 0 0 0 _ _ _ _ _ _ _ _ _ _ _ _ _ _ _ iv0⟩)
theorem i_vc (xs : Nat → Int32) (L : Nat) (hL : L ≤ 260) : wpL_law (fun r => r = 1) L xs := by
  refine pk_le L 0 (fun _ => pm_19 xs L hL _) (fun h => ⟨pk_in 0 L h, pm_19 xs L hL _⟩)
end
