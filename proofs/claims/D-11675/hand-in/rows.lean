section
/-! small facts about ints, byte rows, digits -/
theorem ob_ix (o i : Nat) : (6 : Int32) * nI o + nI i = nI (6 * o + i) := by
  rw [show (6 : Int32) = nI 6 from rfl, pk_mul, nI_add]
theorem ob_6 (o : Nat) : (6 : Int32) * nI o = nI (6 * o) := by
  rw [show (6 : Int32) = nI 6 from rfl, pk_mul]
theorem ob_fx (h p : Nat) : (3700 : Int32) * nI h + nI p = nI (3700 * h + p) := by
  rw [show (3700 : Int32) = nI 3700 from rfl, pk_mul, nI_add]
theorem ob_48 (k : Nat) : (48 : Int32) + nI k = nI (48 + k) := by
  rw [show (48 : Int32) = nI 48 from rfl, nI_add]
theorem ob_m48 (k : Nat) : nI (48 + k) - 48 = nI k := by
  rw [show (48 : Int32) = nI 48 from rfl, pk_sub (by omega), Nat.add_sub_cancel_left]
theorem ob_cl (o i : Nat) (ho : o ≤ 8) (hi : i ≤ 6) : ((6 : Int32) * nI o + nI i).toNatClampNeg = 6 * o + i := by
  rw [ob_ix, nI_clamp (by omega)]

/-- a row of bytes stands at a place -/
def sg_at (g : Nat → Int32) : Nat → List Nat → Prop
  | _, [] => True
  | p, b :: bs => g p = nI b ∧ sg_at g (p + 1) bs
theorem sg_app (g : Nat → Int32) : ∀ (xs ys : List Nat) (p : Nat), sg_at g p (xs ++ ys) ↔ sg_at g p xs ∧ sg_at g (p + xs.length) ys
  | [], ys, p => by simp [sg_at]
  | x :: xs, ys, p => by
    have := sg_app g xs ys (p + 1)
    simp only [List.cons_append, sg_at, this, List.length_cons, and_assoc]
    rw [show p + 1 + xs.length = p + (xs.length + 1) by omega]
theorem sg_1 {g : Nat → Int32} {p b : Nat} {bs : List Nat} (h : sg_at g p (b :: bs)) : g p = nI b := h.1
theorem sg_2 {g : Nat → Int32} {p b : Nat} {bs : List Nat} (h : sg_at g p (b :: bs)) : sg_at g (p + 1) bs := h.2
theorem sg_l {g : Nat → Int32} {p : Nat} {xs ys : List Nat} (h : sg_at g p (xs ++ ys)) : sg_at g p xs := ((sg_app g xs ys p).mp h).1
theorem sg_r {g : Nat → Int32} {p : Nat} {xs ys : List Nat} (h : sg_at g p (xs ++ ys)) : sg_at g (p + xs.length) ys := ((sg_app g xs ys p).mp h).2
theorem sg_keep {g g' : Nat → Int32} : ∀ (bs : List Nat) (p : Nat), (∀ j, p ≤ j → j < p + bs.length → g' j = g j) → sg_at g p bs → sg_at g' p bs
  | [], _, _, _ => trivial
  | b :: bs, p, hk, h => by
    refine ⟨?_, sg_keep bs (p + 1) (fun j h1 h2 => hk j (by omega) (by simp only [List.length_cons]; omega)) h.2⟩
    rw [hk p (by omega) (by simp only [List.length_cons]; omega)]
    exact h.1
theorem sg_get {g : Nat → Int32} : ∀ {bs : List Nat} {p i b : Nat}, sg_at g p bs → bs[i]? = some b → g (p + i) = nI b
  | [], _, _, _, _, hi => by simp at hi
  | c :: bs, p, 0, b, h, hi => by
    simp only [List.getElem?_cons_zero, Option.some.injEq] at hi
    rw [← hi]
    exact h.1
  | c :: bs, p, i + 1, b, h, hi => by
    simp only [List.getElem?_cons_succ] at hi
    have := sg_get h.2 hi
    rw [show p + (i + 1) = p + 1 + i by omega]
    exact this
theorem sg_of {g : Nat → Int32} : ∀ {bs : List Nat} {p : Nat}, (∀ i b, bs[i]? = some b → g (p + i) = nI b) → sg_at g p bs
  | [], _, _ => trivial
  | c :: bs, p, h => by
    refine ⟨h 0 c rfl, sg_of (fun i b hi => ?_)⟩
    have := h (i + 1) b (by simpa using hi)
    rw [show p + 1 + i = p + (i + 1) by omega]
    exact this

/-- how many digits beyond the first -/
def en_ct (r : Nat) : Nat → Nat → Nat
  | 0, j => j
  | f + 1, j => if r < 10 ^ (j + 1) then j else en_ct r f (j + 1)
/-- the last k digits, as bytes -/
def en_dgs (r : Nat) : Nat → List Nat
  | 0 => []
  | k + 1 => (48 + r / 10 ^ k % 10) :: en_dgs r k
def en_nat (r : Nat) : List Nat := en_dgs r (en_ct r 9 0 + 1)
def en_num (v : Int32) : List Nat := if v.toInt < 0 then 45 :: en_nat (-v.toInt).toNat else en_nat v.toInt.toNat
theorem en_len (r : Nat) : ∀ k, (en_dgs r k).length = k
  | 0 => rfl
  | k + 1 => by rw [en_dgs, List.length_cons, en_len r k]
theorem en_ct_le (r : Nat) : ∀ f j k, r < 10 ^ (k + 1) → j ≤ k → en_ct r f j ≤ k
  | 0, j, k, _, hj => hj
  | f + 1, j, k, h, hj => by
    rw [en_ct]
    by_cases c : r < 10 ^ (j + 1)
    · rw [if_pos c]; exact hj
    · rw [if_neg c]
      refine en_ct_le r f (j + 1) k h ?_
      rcases Nat.lt_or_ge j k with z | z
      · exact z
      · have : j = k := by omega
        rw [this] at c
        exact absurd h c
theorem en_ct_lt (r : Nat) : ∀ f j, r < 10 ^ (j + f + 1) → r < 10 ^ (en_ct r f j + 1)
  | 0, j, h => by rw [en_ct]; exact h
  | f + 1, j, h => by
    rw [en_ct]
    by_cases c : r < 10 ^ (j + 1)
    · rw [if_pos c]; exact c
    · rw [if_neg c]
      exact en_ct_lt r f (j + 1) (by rw [show j + 1 + f + 1 = j + (f + 1) + 1 by omega]; exact h)
theorem en_ct_b (r : Nat) : ∀ f j, en_ct r f j ≤ j + f
  | 0, j => by rw [en_ct]; omega
  | f + 1, j => by
    rw [en_ct]
    by_cases c : r < 10 ^ (j + 1)
    · rw [if_pos c]; omega
    · rw [if_neg c]
      have := en_ct_b r f (j + 1)
      omega
theorem en_nat_len {r k : Nat} (h : r < 10 ^ (k + 1)) : (en_nat r).length ≤ k + 1 := by
  rw [en_nat, en_len]
  have := en_ct_le r 9 0 k h (by omega)
  omega
theorem en_nat_pos (r : Nat) : 1 ≤ (en_nat r).length := by
  rw [en_nat, en_len]; omega
theorem en_nat_10 (r : Nat) : (en_nat r).length ≤ 10 := by
  rw [en_nat, en_len]
  have := en_ct_b r 9 0
  omega
theorem en_num_nI {n : Nat} (h : n < 2 ^ 31) : en_num (nI n) = en_nat n := by
  rw [en_num, nI_toInt h, if_neg (by omega)]
  rfl
theorem en_num_11 (v : Int32) : (en_num v).length ≤ 11 := by
  rw [en_num]
  by_cases c : v.toInt < 0
  · rw [if_pos c, List.length_cons]
    have := en_nat_10 (-v.toInt).toNat
    omega
  · rw [if_neg c]
    have := en_nat_10 v.toInt.toNat
    omega
theorem en_num_m1 : en_num (-1) = [45, 49] := by decide
theorem en_dgs_mem (r : Nat) : ∀ k b, b ∈ en_dgs r k → 48 ≤ b ∧ b ≤ 57
  | 0, b, h => by simp [en_dgs] at h
  | k + 1, b, h => by
    rw [en_dgs, List.mem_cons] at h
    rcases h with h | h
    · have : r / 10 ^ k % 10 < 10 := Nat.mod_lt _ (by omega)
      omega
    · exact en_dgs_mem r k b h
theorem en_nat_mem {r b : Nat} (h : b ∈ en_nat r) : 48 ≤ b ∧ b ≤ 57 := en_dgs_mem r _ b h
theorem en_num_mem {v : Int32} {b : Nat} (h : b ∈ en_num v) : 45 ≤ b ∧ b ≤ 57 := by
  rw [en_num] at h
  by_cases c : v.toInt < 0
  · rw [if_pos c, List.mem_cons] at h
    rcases h with h | h
    · omega
    · have := en_nat_mem h; omega
  · rw [if_neg c] at h
    have := en_nat_mem h; omega
theorem en_div (r k : Nat) : 10 * (r / 10 ^ (k + 1)) + r / 10 ^ k % 10 = r / 10 ^ k := by
  rw [Nat.pow_succ, ← Nat.div_div_eq_div_mul]
  omega
theorem en_pow {k : Nat} (h : k ≤ 10) : 10 ^ k ≤ 10 ^ 10 := Nat.pow_le_pow_right (by omega) h
theorem en_powpos (k : Nat) : 0 < 10 ^ k := Nat.pow_pos (by omega)
theorem en_unit (k : Nat) : 10 ^ (k + 1) / 10 = 10 ^ k := by
  rw [Nat.pow_succ]; omega
end
section
/-! writing: bring, bringNumber -/
variable {hN hf ln ll rv sl aw wl ts fr fs iu : Int32} {a1 a2 a3 a4 a5 a6 a7 a8 a9 a10 a11 a12 a13 a14 a15 : Nat → Int32}
abbrev wr_T : Type := Nat × Nat × Nat × (Nat → Int32) × (Nat → Int32)
/-- scratch length, place in the half, writes left, file, scratch: one byte is brought -/
def wr_1 (ts : Int32) (h : Nat) (W : wr_T) (c : Nat) : wr_T :=
  if ts = 0 then (W.1, W.2.1 + 1, W.2.2.1 - 1, (if W.2.2.1 = 0 then W.2.2.2.1 else upd W.2.2.2.1 (3700 * h + W.2.1) (nI c).toInt8.toInt32), W.2.2.2.2)
  else (W.1 + 1, W.2.1, W.2.2.1, W.2.2.2.1, upd W.2.2.2.2 W.1 (nI c))
def wr_l (ts : Int32) (h : Nat) (W : wr_T) (bs : List Nat) : wr_T := bs.foldl (wr_1 ts h) W
def wr_room (ts : Int32) (W : wr_T) (n : Nat) : Prop := (ts = 0 → W.2.1 + n ≤ 3700 ∧ W.2.2.1 ≤ 3700) ∧ (¬ ts = 0 → W.1 + n ≤ 700)
theorem wr_nil (ts : Int32) (h : Nat) (W : wr_T) : wr_l ts h W [] = W := rfl
theorem wr_cons (ts : Int32) (h : Nat) (W : wr_T) (c : Nat) (bs : List Nat) : wr_l ts h W (c :: bs) = wr_l ts h (wr_1 ts h W c) bs := rfl
theorem wr_app (ts : Int32) (h : Nat) (W : wr_T) (xs ys : List Nat) : wr_l ts h W (xs ++ ys) = wr_l ts h (wr_l ts h W xs) ys := List.foldl_append
theorem wr_one (ts : Int32) (h : Nat) (W : wr_T) (c : Nat) : wr_l ts h W [c] = wr_1 ts h W c := rfl
theorem wr_room1 {h : Nat} {W : wr_T} {n c : Nat} (hr : wr_room ts W (n + 1)) : wr_room ts (wr_1 ts h W c) n := by
  unfold wr_room wr_1 at *
  by_cases ht : ts = 0
  · rw [if_pos ht]
    refine ⟨fun _ => ?_, fun z => absurd ht z⟩
    have := hr.1 ht
    exact ⟨by show W.2.1 + 1 + n ≤ 3700; omega, by show W.2.2.1 - 1 ≤ 3700; omega⟩
  · rw [if_neg ht]
    refine ⟨fun z => absurd z ht, fun _ => ?_⟩
    have := hr.2 ht
    show W.1 + 1 + n ≤ 700
    omega
theorem wr_roomL {h : Nat} : ∀ {bs : List Nat} {W : wr_T} {n : Nat}, wr_room ts W (bs.length + n) → wr_room ts (wr_l ts h W bs) n
  | [], W, n, hr => by rw [wr_nil]; rw [List.length_nil, Nat.zero_add] at hr; exact hr
  | b :: bs, W, n, hr => by
    rw [wr_cons]
    refine wr_roomL (wr_room1 ?_)
    rw [List.length_cons] at hr
    rw [show bs.length + n + 1 = bs.length + 1 + n by omega]
    exact hr
theorem wr_roomM {W : wr_T} {m n : Nat} (hr : wr_room ts W n) (h : m ≤ n) : wr_room ts W m :=
  ⟨fun z => ⟨by have := (hr.1 z).1; omega, (hr.1 z).2⟩, fun z => by have := hr.2 z; omega⟩
theorem wr_bring {post : St1 → Prop} {h c : Nat} {W : wr_T} {b : Int32} (hb : b = nI c) (hh : h ≤ 1) (hr : wr_room ts W 1) (H : post (hN, nI h, ln, ll, rv, nI (wr_1 ts h W c).1, nI (wr_1 ts h W c).2.1, nI (wr_1 ts h W c).2.2.1, ts, fr, fs, iu, a1, a2, a3, a4, a5, a6, (wr_1 ts h W c).2.2.2.1, a8, (wr_1 ts h W c).2.2.2.2, a10, a11, a12, a13, a14, a15)) : wpX_bring post (hN, nI h, ln, ll, rv, nI W.1, nI W.2.1, nI W.2.2.1, ts, fr, fs, iu, a1, a2, a3, a4, a5, a6, W.2.2.2.1, a8, W.2.2.2.2, a10, a11, a12, a13, a14, a15) b := by
  subst hb
  by_cases ht : ts = 0
  · subst ht
    have hr := hr.1 rfl
    unfold wr_1 at H
    rw [if_pos rfl] at H
    by_cases hw : W.2.2.1 = 0
    · rw [if_pos hw] at H
      refine br_t rfl (br_t ?_ (nm_r (nI_1 _) ?_))
      · rw [hw]; decide
      · dsimp only at H
        rw [hw] at H
        rw [hw]
        exact H
    · rw [if_neg hw] at H
      refine br_t rfl (br_f (nI_nle (by omega) (by omega)) ⟨pk_in (3700 * h + W.2.1) 7400 (by omega) (ob_fx _ _), nm_r (by rw [ob_fx, nI_clamp (by omega)]) (nm_r (pk_sub (a := W.2.2.1) (b := 1) (by omega)) (nm_r (nI_1 _) H))⟩)
  · have hr := hr.2 ht
    unfold wr_1 at H
    rw [if_neg ht] at H
    exact br_f ht ⟨pk_in W.1 700 (by omega) rfl, nm_r (by rw [nI_clamp (by omega)]) (nm_r (nI_1 _) H)⟩
theorem wr_num43 {post : St1 → Prop} {h r : Nat} (hh : h ≤ 1) (hr : r < 2 ^ 32) : ∀ (k : Nat), k ≤ 10 → ∀ (W : wr_T), wr_room ts W k → post (hN, nI h, ln, ll, rv, nI (wr_l ts h W (en_dgs r k)).1, nI (wr_l ts h W (en_dgs r k)).2.1, nI (wr_l ts h W (en_dgs r k)).2.2.1, ts, fr, fs, iu, a1, a2, a3, a4, a5, a6, (wr_l ts h W (en_dgs r k)).2.2.2.1, a8, (wr_l ts h W (en_dgs r k)).2.2.2.2, a10, a11, a12, a13, a14, a15) → wX_bringNumber_43 post (lN r) (k + 1) (lN (10 ^ k / 10)) hN (nI h) ln ll rv (nI W.1) (nI W.2.1) (nI W.2.2.1) ts fr fs iu a1 a2 a3 a4 a5 a6 W.2.2.2.1 a8 W.2.2.2.2 a10 a11 a12 a13 a14 a15
  | 0, _, W, _, H => br_t (by decide) H
  | k + 1, hk, W, hro, H => by
    have e1 : 10 ^ k ≤ 10 ^ 10 := en_pow (by omega)
    have e2 := en_powpos k
    rw [en_unit]
    have hd : 48 + (lN r / lN (10 ^ k) - lN r / lN (10 ^ k) / 10 * 10).toInt32 = nI (48 + r / 10 ^ k % 10) := by
      rw [pk_lDiv (by omega) e2 (by omega), show (10 : Int64) = lN 10 from rfl, pk_lRem (by have := Nat.div_le_self r (10 ^ k); omega) (by omega) (by omega), lN_i, ob_48]
    refine br_f (fun z => ?_) ⟨fun z => ?_, by decide, wr_bring hd hh (wr_roomM hro (by omega)) ⟨by decide, nm_r (e' := lN (10 ^ k / 10)) ?_ ?_⟩⟩
    · have := (pk_lLE (by omega) (by omega)).mp (show lN (10 ^ k) ≤ lN 0 from z)
      omega
    · have := (pk_lEQ (by omega) (by omega)).mp (show lN (10 ^ k) = lN 0 from z)
      omega
    · rw [show (10 : Int64) = lN 10 from rfl, pk_lDiv (by omega) (by omega) (by omega)]
    · exact wr_num43 hh hr k (by omega) _ (wr_room1 hro) H
theorem wr_num21 {post : St1 → Prop} {h r : Nat} (hh : h ≤ 1) (hr : r < 2 ^ 32) {W : wr_T} : ∀ (f j : Nat), j + f = 9 → wr_room ts W (en_ct r f j + 1) → post (hN, nI h, ln, ll, rv, nI (wr_l ts h W (en_dgs r (en_ct r f j + 1))).1, nI (wr_l ts h W (en_dgs r (en_ct r f j + 1))).2.1, nI (wr_l ts h W (en_dgs r (en_ct r f j + 1))).2.2.1, ts, fr, fs, iu, a1, a2, a3, a4, a5, a6, (wr_l ts h W (en_dgs r (en_ct r f j + 1))).2.2.2.1, a8, (wr_l ts h W (en_dgs r (en_ct r f j + 1))).2.2.2.2, a10, a11, a12, a13, a14, a15) → wX_bringNumber_21 post (lN r) hN (nI h) ln ll rv (nI W.1) (nI W.2.1) (nI W.2.2.1) ts fr fs iu a1 a2 a3 a4 a5 a6 W.2.2.2.1 a8 W.2.2.2.2 a10 a11 a12 a13 a14 a15 (f + 1) (lN (10 ^ j))
  | f, j, hj, hro, H => by
    have e1 : 10 ^ (j + 1) ≤ 10 ^ 10 := en_pow (by omega)
    have em : lN (10 ^ j) * 10 = lN (10 ^ (j + 1)) := by
      rw [show (10 : Int64) = lN 10 from rfl, lN_mul, ← Nat.pow_succ]
    have stop : r < 10 ^ (j + 1) → wr_room ts W (j + 1) → post (hN, nI h, ln, ll, rv, nI (wr_l ts h W (en_dgs r (j + 1))).1, nI (wr_l ts h W (en_dgs r (j + 1))).2.1, nI (wr_l ts h W (en_dgs r (j + 1))).2.2.1, ts, fr, fs, iu, a1, a2, a3, a4, a5, a6, (wr_l ts h W (en_dgs r (j + 1))).2.2.2.1, a8, (wr_l ts h W (en_dgs r (j + 1))).2.2.2.2, a10, a11, a12, a13, a14, a15) → wX_bringNumber_21 post (lN r) hN (nI h) ln ll rv (nI W.1) (nI W.2.1) (nI W.2.2.1) ts fr fs iu a1 a2 a3 a4 a5 a6 W.2.2.2.1 a8 W.2.2.2.2 a10 a11 a12 a13 a14 a15 (f + 1) (lN (10 ^ j)) := by
      intro c hro H
      have t := wr_num43 hh hr (j + 1) (by omega) W hro H
      rw [en_unit] at t
      refine br_t ?_ ⟨_, t⟩
      rw [em]
      exact (pk_lLT (by omega) (by omega)).mpr c
    match f, hj, hro, H, stop with
    | 0, hj, hro, H, stop =>
      refine stop ?_ hro H
      rw [show j + 1 = 10 by omega]
      omega
    | f + 1, hj, hro, H, stop =>
      rw [en_ct] at hro H
      by_cases c : r < 10 ^ (j + 1)
      · rw [if_pos c] at hro H
        exact stop c hro H
      · rw [if_neg c] at hro H
        refine br_f ?_ (nm_r em (wr_num21 hh hr f (j + 1) (by omega) hro H))
        rw [em]
        exact fun z => c ((pk_lLT (by omega) (by omega)).mp z)
theorem wr_num {post : St1 → Prop} {h : Nat} {v : Int32} {W : wr_T} (hh : h ≤ 1) (hro : wr_room ts W (en_num v).length) (H : post (hN, nI h, ln, ll, rv, nI (wr_l ts h W (en_num v)).1, nI (wr_l ts h W (en_num v)).2.1, nI (wr_l ts h W (en_num v)).2.2.1, ts, fr, fs, iu, a1, a2, a3, a4, a5, a6, (wr_l ts h W (en_num v)).2.2.2.1, a8, (wr_l ts h W (en_num v)).2.2.2.2, a10, a11, a12, a13, a14, a15)) : wpX_bringNumber post (hN, nI h, ln, ll, rv, nI W.1, nI W.2.1, nI W.2.2.1, ts, fr, fs, iu, a1, a2, a3, a4, a5, a6, W.2.2.2.1, a8, W.2.2.2.2, a10, a11, a12, a13, a14, a15) v := by
  have hv := v.toInt_lt
  have hv2 := v.le_toInt
  by_cases c : v.toInt < 0
  · obtain ⟨r, hr⟩ : ∃ r : Nat, v.toInt = -(r : Int) := ⟨(-v.toInt).toNat, by omega⟩
    have e0 : (-v.toInt).toNat = r := by omega
    have e1 : -v.toInt64 = lN r := by
      apply Int64.toInt_inj.mp
      rw [pk_lT (by omega), Int64.toInt_neg, Int32.toInt_toInt64, hr, Int.neg_neg]
      exact Int.bmod_eq_of_le (by omega) (by omega)
    rw [en_num, if_pos c, e0] at hro H
    refine br_f ?_ (wr_bring (c := 45) rfl hh (wr_roomM hro (by simp only [List.length_cons]; omega)) (nm_r e1 ⟨_, wr_num21 hh (by omega) 9 0 rfl ?_ H⟩))
    · intro z
      have := Int64.le_iff_toInt_le.mp z
      rw [Int32.toInt_toInt64] at this
      exact absurd this (by rw [show (0 : Int64).toInt = 0 from rfl]; omega)
    · have := wr_room1 (h := h) (c := 45) hro
      rw [en_nat, en_len] at this
      exact this
  · obtain ⟨r, hr⟩ : ∃ r : Nat, v.toInt = (r : Int) := ⟨v.toInt.toNat, by omega⟩
    have e0 : v.toInt.toNat = r := by omega
    have e1 : v.toInt64 = lN r := by
      apply Int64.toInt_inj.mp
      rw [pk_lT (by omega), Int32.toInt_toInt64, hr]
    rw [en_num, if_neg c, e0] at hro H
    refine br_t ?_ ⟨10, ?_⟩
    · rw [e1]
      exact (pk_lLE (a := 0) (by omega) (by omega)).mpr (by omega)
    · rw [e1]
      refine wr_num21 hh (by omega) 9 0 rfl ?_ H
      rw [en_nat, en_len] at hro
      exact hro
end
section
/-! reading: peek, take, takeNumber -/
variable {hN hf ln ll rv sl aw wl ts fr fs iu : Int32} {a1 a2 a3 a4 a5 a6 a7 a8 a9 a10 a11 a12 a13 a14 a15 : Nat → Int32}
/-- what is read at a place: the file's half, or the scratch -/
def rd_g (fs : Int32) (h : Nat) (a7 a9 : Nat → Int32) : Nat → Int32 := fun p => if fs = 0 then a7 (3700 * h + p) &&& 255 else a9 p
def rd_lim (fs : Int32) : Nat := if fs = 0 then 3700 else 700
theorem rd_lim_le (fs : Int32) : rd_lim fs ≤ 3700 := by
  unfold rd_lim
  by_cases c : fs = 0
  · rw [if_pos c]
    omega
  · rw [if_neg c]; omega
theorem rd_peek {post : Int32 → Prop} {h p c : Nat} (hh : h ≤ 1) (hp : p < rd_lim fs) (hg : rd_g fs h a7 a9 p = nI c) (H : post (nI c)) : wpX_peek post (hN, nI h, ln, ll, rv, sl, aw, wl, ts, nI p, fs, iu, a1, a2, a3, a4, a5, a6, a7, a8, a9, a10, a11, a12, a13, a14, a15) := by
  unfold rd_g at hg
  unfold rd_lim at hp
  by_cases c : fs = 0
  · rw [if_pos c] at hg hp
    refine br_t c ⟨pk_in (3700 * h + p) 7400 (by omega) (ob_fx _ _), ?_⟩
    rw [ob_fx, nI_clamp (by omega), hg]
    exact H
  · rw [if_neg c] at hg hp
    refine br_f c ⟨pk_in p 700 (by omega) rfl, ?_⟩
    rw [nI_clamp (by omega), hg]
    exact H
theorem rd_take {post : Int32 → St1 → Prop} {h p c : Nat} (hh : h ≤ 1) (hp : p < rd_lim fs) (hg : rd_g fs h a7 a9 p = nI c) (H : post (nI c) (hN, nI h, ln, ll, rv, sl, aw, wl, ts, nI (p + 1), fs, iu, a1, a2, a3, a4, a5, a6, a7, a8, a9, a10, a11, a12, a13, a14, a15)) : wpX_take post (hN, nI h, ln, ll, rv, sl, aw, wl, ts, nI p, fs, iu, a1, a2, a3, a4, a5, a6, a7, a8, a9, a10, a11, a12, a13, a14, a15) := by
  unfold rd_g at hg
  unfold rd_lim at hp
  by_cases c : fs = 0
  · rw [if_pos c] at hg hp
    refine br_t c ⟨pk_in (3700 * h + p) 7400 (by omega) (ob_fx _ _), ?_⟩
    rw [ob_fx, nI_clamp (by omega), hg]
    exact nm_r (nI_1 _) H
  · rw [if_neg c] at hg hp
    refine br_f c ⟨pk_in p 700 (by omega) rfl, ?_⟩
    rw [nI_clamp (by omega), hg]
    exact nm_r (nI_1 _) H
theorem rd_dig {post : Int32 → Prop} {c : Nat} (hc : c < 256) (H1 : (48 ≤ c ∧ c ≤ 57) → post 1) (H0 : ¬ (48 ≤ c ∧ c ≤ 57) → post 0) : wpX_isDigit post () (nI c) :=
  pk_lt c 48 (fun z => H0 (by omega)) (fun z => pk_lt 57 c (fun z2 => H0 (by omega)) (fun z2 => H1 (by omega)))
theorem rd_num31 {post : Int32 → St1 → Prop} {h c r : Nat} {x1 : Int32} (hh : h ≤ 1) (hr : r < 2 ^ 32) (hc : ¬ (48 ≤ c ∧ c ≤ 57)) (hc2 : c < 256) : ∀ (k p : Nat), k ≤ 10 → r < 10 ^ 10 → p + k < rd_lim fs → sg_at (rd_g fs h a7 a9) p (en_dgs r k ++ [c]) → (x1 = 0 → post (nI r) (hN, nI h, ln, ll, rv, sl, aw, wl, ts, nI (p + k), fs, iu, a1, a2, a3, a4, a5, a6, a7, a8, a9, a10, a11, a12, a13, a14, a15)) → (¬ x1 = 0 → post (-(nI r)) (hN, nI h, ln, ll, rv, sl, aw, wl, ts, nI (p + k), fs, iu, a1, a2, a3, a4, a5, a6, a7, a8, a9, a10, a11, a12, a13, a14, a15)) → wX_takeNumber_31 post x1 (k + 1) (lN (r / 10 ^ k)) hN (nI h) ln ll rv sl aw wl ts (nI p) fs iu a1 a2 a3 a4 a5 a6 a7 a8 a9 a10 a11 a12 a13 a14 a15
  | 0, p, _, hr10, hl, hs, H0, H1 => by
    unfold wX_takeNumber_31
    refine rd_peek hh (by omega) (sg_1 hs) (rd_dig hc2 (fun z => absurd z hc) (fun _ => br_t rfl ?_))
    rw [Nat.pow_zero, Nat.div_one]
    refine br_c (fun z => ?_) (fun z => ?_)
    · rw [lN_i]; exact H0 z
    · rw [Int64.toInt32_neg, lN_i]; exact H1 z
  | k + 1, p, hk, hr10, hl, hs, H0, H1 => by
    have hm : r / 10 ^ k % 10 < 10 := Nat.mod_lt _ (by omega)
    unfold wX_takeNumber_31
    refine rd_peek hh (by omega) (sg_1 hs) (rd_dig (by omega) (fun z => br_f (by decide) ?_) (fun z => absurd (by omega) z))
    refine rd_take hh (by omega) (sg_1 hs) (nm_r (e' := lN (r / 10 ^ k)) ?_ ?_)
    · rw [nI_l (by omega), show (10 : Int64) = lN 10 from rfl, show (48 : Int64) = lN 48 from rfl, lN_mul, lN_add, lN_sub (by omega)]
      have := en_div r k
      congr 1
      omega
    · have e : p + (k + 1) = p + 1 + k := by omega
      rw [e] at H0 H1 hl
      exact rd_num31 hh hr hc hc2 k (p + 1) (by omega) hr10 hl (sg_2 hs) H0 H1
theorem rd_num {post : Int32 → St1 → Prop} {h p c : Nat} {v : Int32} (hh : h ≤ 1) (hc : ¬ (48 ≤ c ∧ c ≤ 57)) (hc2 : c < 256) (hl : p + (en_num v).length < rd_lim fs) (hs : sg_at (rd_g fs h a7 a9) p (en_num v ++ [c])) (H : post v (hN, nI h, ln, ll, rv, sl, aw, wl, ts, nI (p + (en_num v).length), fs, iu, a1, a2, a3, a4, a5, a6, a7, a8, a9, a10, a11, a12, a13, a14, a15)) : wpX_takeNumber post (hN, nI h, ln, ll, rv, sl, aw, wl, ts, nI p, fs, iu, a1, a2, a3, a4, a5, a6, a7, a8, a9, a10, a11, a12, a13, a14, a15) := by
  have hv := v.toInt_lt
  have hv2 := v.le_toInt
  have nat : ∀ (r q : Nat) (x1 : Int32), r ≤ 2 ^ 31 → q + (en_nat r).length < rd_lim fs → sg_at (rd_g fs h a7 a9) q (en_nat r ++ [c]) → (x1 = 0 → post (nI r) (hN, nI h, ln, ll, rv, sl, aw, wl, ts, nI (q + (en_nat r).length), fs, iu, a1, a2, a3, a4, a5, a6, a7, a8, a9, a10, a11, a12, a13, a14, a15)) → (¬ x1 = 0 → post (-(nI r)) (hN, nI h, ln, ll, rv, sl, aw, wl, ts, nI (q + (en_nat r).length), fs, iu, a1, a2, a3, a4, a5, a6, a7, a8, a9, a10, a11, a12, a13, a14, a15)) → ∃ fu, wX_takeNumber_31 post x1 fu 0 hN (nI h) ln ll rv sl aw wl ts (nI q) fs iu a1 a2 a3 a4 a5 a6 a7 a8 a9 a10 a11 a12 a13 a14 a15 := by
    intro r q x1 hr hl hs H0 H1
    rw [en_nat, en_len] at hl H0 H1
    have hb := en_ct_b r 9 0
    have hlt : r < 10 ^ (en_ct r 9 0 + 1) := en_ct_lt r 9 0 (by omega)
    have t := rd_num31 (x1 := x1) hh (by omega) hc hc2 (en_ct r 9 0 + 1) q (by omega) (by omega) hl hs H0 H1
    rw [Nat.div_eq_of_lt hlt] at t
    exact ⟨_, t⟩
  unfold wpX_takeNumber
  by_cases c0 : v.toInt < 0
  · obtain ⟨r, hr⟩ : ∃ r : Nat, v.toInt = -(r : Int) := ⟨(-v.toInt).toNat, by omega⟩
    have e0 : (-v.toInt).toNat = r := by omega
    have ev : v = -(nI r) := by
      rcases Nat.lt_or_ge r (2 ^ 31) with z | z
      · apply Int32.toInt_inj.mp
        rw [hr, sb_negT z]
      · have er : r = 2 ^ 31 := by omega
        apply Int32.toInt_inj.mp
        rw [hr, er]
        decide
    rw [en_num, if_pos c0, e0] at hl hs H
    have ep : p + (45 :: en_nat r).length = p + 1 + (en_nat r).length := by rw [List.length_cons]; omega
    rw [ep] at hl H
    refine rd_peek hh (by omega) (sg_1 hs) (br_t rfl (br_f (by decide) (nm_r (nI_1 _) (nat r (p + 1) 1 (by omega) hl (sg_2 hs) (fun z => absurd z (by decide)) (fun _ => ?_)))))
    rw [← ev]
    exact H
  · obtain ⟨r, hr⟩ : ∃ r : Nat, v.toInt = (r : Int) := ⟨v.toInt.toNat, by omega⟩
    have e0 : v.toInt.toNat = r := by omega
    have ev : v = nI r := by
      apply Int32.toInt_inj.mp
      rw [hr, nI_toInt (by omega)]
    rw [en_num, if_neg c0, e0] at hl hs H
    have h1 : ∃ b bs, en_nat r = b :: bs ∧ 48 ≤ b ∧ b ≤ 57 := by
      rw [en_nat, en_dgs]
      exact ⟨_, _, rfl, by omega, by have : r / 10 ^ (en_ct r 9 0) % 10 < 10 := Nat.mod_lt _ (by omega); omega⟩
    obtain ⟨b, bs, hb, hb1, hb2⟩ := h1
    have hs' := hs
    rw [hb] at hs'
    refine rd_peek hh (by omega) (sg_1 hs') (br_f (fun z => ?_) (br_t rfl (nat r p 0 (by omega) hl hs (fun _ => ?_) (fun z => absurd rfl z))))
    · have := (nI_eq (a := b) (b := 45) (by omega) (by omega)).mp z
      omega
    · rw [← ev]; exact H
end
section
/-! objects as pictures, how they are written -/
variable {hN hf ln ll rv sl aw wl ts fr fs iu : Int32} {a1 a2 a3 a4 a5 a6 a7 a8 a9 a10 a11 a12 a13 a14 a15 : Nat → Int32}
/-- an item: the value's kind, the value, the key -/
abbrev ob_It : Type := Nat × Int32 × Nat
/-- an object: its kind, its items -/
abbrev ob_Ob : Type := Nat × List ob_It
def ob_no : ob_Ob := (0, [])
def ob_link (v : Int32) : Prop := ∃ t : Nat, 1 ≤ t ∧ t ≤ 8 ∧ v = nI t
def ob_item (k : Nat) (v : Int32) : Prop := k = 0 ∨ (k = 1 ∧ ∃ b : Nat, b < 64 ∧ v = nI b) ∨ (k = 2 ∧ ob_link v)
def ob_ok (x : ob_Ob) : Prop :=
  (x.1 = 0 ∧ x.2 = []) ∨ (x.1 = 1 ∧ ∃ v, x.2 = [(0, v, 0)]) ∨
  (x.1 = 2 ∧ x.2.length ≤ 6 ∧ ∀ it ∈ x.2, it.1 = 3 ∧ it.2.2 = 0 ∧ ∃ b : Nat, b < 256 ∧ it.2.1 = nI b) ∨
  (x.1 = 3 ∧ x.2.length ≤ 4 ∧ ∀ it ∈ x.2, it.2.2 = 0 ∧ ob_item it.1 it.2.1) ∨
  (x.1 = 4 ∧ x.2.length ≤ 3 ∧ (∀ it ∈ x.2, it.2.2 < 32 ∧ (it.1 = 0 ∨ it.1 = 2 ∧ ob_link it.2.1)) ∧ x.2.Pairwise (fun a b => a.2.2 < b.2.2)) ∨
  (x.1 = 5 ∧ ∃ v, ob_link v ∧ x.2 = [(2, v, 0)])
/-- what reading and writing ask of an object -/
def ob_fit (x : ob_Ob) : Prop := x.1 ≤ 5 ∧ x.2.length ≤ 6 ∧ ∀ it ∈ x.2, it.2.2 < 32 ∧ (¬ x.1 = 4 → it.2.2 = 0) ∧ (x.1 = 2 → it.1 = 3 ∧ ∃ b : Nat, b < 256 ∧ it.2.1 = nI b) ∧ (¬ x.1 = 2 → it.1 ≤ 2)
theorem ob_okno : ob_ok ob_no := Or.inl ⟨rfl, rfl⟩
theorem ob_item_le {k : Nat} {v : Int32} (h : ob_item k v) : k ≤ 2 := by
  rcases h with h | h | h
  · omega
  · have := h.1; omega
  · have := h.1; omega
theorem ob_okfit {x : ob_Ob} (h : ob_ok x) : ob_fit x := by
  obtain ⟨k, l⟩ := x
  unfold ob_ok at h
  unfold ob_fit
  dsimp only at *
  rcases h with ⟨rfl, rfl⟩ | ⟨rfl, v, rfl⟩ | ⟨rfl, hl, h⟩ | ⟨rfl, hl, h⟩ | ⟨rfl, hl, h, _⟩ | ⟨rfl, v, hv, rfl⟩
  · exact ⟨by omega, by simp, by simp⟩
  · exact ⟨by omega, by simp, by simp⟩
  · exact ⟨by omega, hl, fun it hi => ⟨by have := (h it hi).2.1; omega, fun _ => (h it hi).2.1, fun _ => ⟨(h it hi).1, (h it hi).2.2⟩, fun z => absurd rfl z⟩⟩
  · exact ⟨by omega, by omega, fun it hi => ⟨by have := (h it hi).1; omega, fun _ => (h it hi).1, fun z => absurd z (by omega), fun _ => ob_item_le (h it hi).2⟩⟩
  · exact ⟨by omega, by omega, fun it hi => ⟨(h it hi).1, fun z => absurd rfl z, fun z => absurd z (by omega), fun _ => by rcases (h it hi).2 with g | g <;> omega⟩⟩
  · exact ⟨by omega, by simp, by simp⟩
/-- the object stands in the arrays at o -/
def ob_at (o : Nat) (x : ob_Ob) (a1 a2 a3 a4 a5 : Nat → Int32) : Prop :=
  a1 o = nI x.1 ∧ a2 o = nI x.2.length ∧ ∀ i it, x.2[i]? = some it → a4 (6 * o + i) = nI it.1 ∧ a3 (6 * o + i) = it.2.1 ∧ a5 (6 * o + i) = nI it.2.2
def ob_all (C : Nat → ob_Ob) (a1 a2 a3 a4 a5 : Nat → Int32) : Prop := ∀ o, 1 ≤ o → o ≤ 8 → ob_at o (C o) a1 a2 a3 a4 a5
theorem ob_keep {o : Nat} {x : ob_Ob} {a1' a2' a3' a4' a5' : Nat → Int32} (hx : x.2.length ≤ 6) (h : ob_at o x a1 a2 a3 a4 a5) (h1 : a1' o = a1 o) (h2 : a2' o = a2 o) (h3 : ∀ i, i < 6 → a3' (6 * o + i) = a3 (6 * o + i) ∧ a4' (6 * o + i) = a4 (6 * o + i) ∧ a5' (6 * o + i) = a5 (6 * o + i)) : ob_at o x a1' a2' a3' a4' a5' := by
  refine ⟨by rw [h1]; exact h.1, by rw [h2]; exact h.2.1, fun i it hi => ?_⟩
  have hl : i < x.2.length := by
    rcases Nat.lt_or_ge i x.2.length with z | z
    · exact z
    · rw [List.getElem?_eq_none z] at hi; simp at hi
  have g := h3 i (by omega)
  rw [g.1, g.2.1, g.2.2]
  exact h.2.2 i it hi

/-- what stands for a value, for an item, for an object -/
def en_mark (k : Nat) : Nat := if k = 2 then 64 else if k = 1 then 47 else 35
def en_val (it : ob_It) : List Nat := if it.1 = 3 then (if it.2.1 = 41 ∨ it.2.1 = 92 then [92, it.2.1.toNatClampNeg] else [it.2.1.toNatClampNeg]) else en_mark it.1 :: en_num it.2.1
def en_it (k : Nat) (it : ob_It) : List Nat := (if k = 4 then en_nat it.2.2 ++ [58] else []) ++ (en_val it ++ (if k = 2 then [] else [44]))
def en_its (k : Nat) : List ob_It → List Nat
  | [] => []
  | it :: l => en_it k it ++ en_its k l
def en_ob (x : ob_Ob) : List Nat := (48 + x.1) :: (en_its x.1 x.2 ++ [41])
theorem wr_value {post : St1 → Prop} {h k : Nat} {it : ob_It} {x : Int32} {W : wr_T} (hh : h ≤ 1) (hx : x = nI k) (hk : k < 54) (h4 : a4 k = nI it.1) (h3 : a3 k = it.2.1) (hi : it.1 ≤ 3) (hb : it.1 = 3 → ∃ b : Nat, b < 256 ∧ it.2.1 = nI b) (hr : wr_room ts W (en_val it).length) (H : post (hN, nI h, ln, ll, rv, nI (wr_l ts h W (en_val it)).1, nI (wr_l ts h W (en_val it)).2.1, nI (wr_l ts h W (en_val it)).2.2.1, ts, fr, fs, iu, a1, a2, a3, a4, a5, a6, (wr_l ts h W (en_val it)).2.2.2.1, a8, (wr_l ts h W (en_val it)).2.2.2.2, a10, a11, a12, a13, a14, a15)) : wpX_bringValue post (hN, nI h, ln, ll, rv, nI W.1, nI W.2.1, nI W.2.2.1, ts, fr, fs, iu, a1, a2, a3, a4, a5, a6, W.2.2.2.1, a8, W.2.2.2.2, a10, a11, a12, a13, a14, a15) x := by
  subst hx
  have hin : vp_in (nI k) 54 := pk_in k 54 hk
  have hc : (nI k).toNatClampNeg = k := nI_clamp (by omega)
  unfold wpX_bringValue
  dsimp only
  rw [hc, h4, h3]
  refine ⟨hin, ?_⟩
  unfold en_val at hr H
  by_cases c : it.1 = 3
  · obtain ⟨b, hb1, hb2⟩ := hb c
    have hbc : it.2.1.toNatClampNeg = b := by rw [hb2, nI_clamp (by omega)]
    rw [if_pos c, hbc] at hr H
    refine br_t (by rw [c]; rfl) ⟨hin, ?_⟩
    have one : ∀ W : wr_T, wr_room ts W 1 → post (hN, nI h, ln, ll, rv, nI (wr_1 ts h W b).1, nI (wr_1 ts h W b).2.1, nI (wr_1 ts h W b).2.2.1, ts, fr, fs, iu, a1, a2, a3, a4, a5, a6, (wr_1 ts h W b).2.2.2.1, a8, (wr_1 ts h W b).2.2.2.2, a10, a11, a12, a13, a14, a15) → wX_bringValue_38 post (nI k) hN (nI h) ln ll rv (nI W.1) (nI W.2.1) (nI W.2.2.1) ts fr fs iu a1 a2 a3 a4 a5 a6 W.2.2.2.1 a8 W.2.2.2.2 a10 a11 a12 a13 a14 a15 := by
      intro W hr H
      refine ⟨hin, wr_bring (c := b) ?_ hh hr H⟩
      rw [hc, h3]; exact hb2
    by_cases d : it.2.1 = 41
    · rw [if_pos (Or.inl d)] at hr H
      exact br_t d (wr_bring (c := 92) rfl hh (wr_roomM hr (by simp)) (one _ (wr_room1 hr) H))
    · by_cases d2 : it.2.1 = 92
      · rw [if_pos (Or.inr d2)] at hr H
        exact br_f d ⟨hin, br_t d2 (wr_bring (c := 92) rfl hh (wr_roomM hr (by simp)) (one _ (wr_room1 hr) H))⟩
      · rw [if_neg (fun z => z.elim d d2)] at hr H
        exact br_f d ⟨hin, br_f d2 (one _ hr H)⟩
  · rw [if_neg c] at hr H
    have mk : ∀ m : Nat, en_mark it.1 = m → wX_bringValue_82 post (nI k) (nI m) hN (nI h) ln ll rv (nI W.1) (nI W.2.1) (nI W.2.2.1) ts fr fs iu a1 a2 a3 a4 a5 a6 W.2.2.2.1 a8 W.2.2.2.2 a10 a11 a12 a13 a14 a15 := by
      intro m hm
      rw [hm] at hr H
      refine wr_bring (c := m) rfl hh (wr_roomM hr (by simp only [List.length_cons]; omega)) ⟨hin, ?_⟩
      rw [hc, h3]
      exact wr_num hh (wr_room1 hr) H
    refine br_f (fun z => c ((nI_eq (by omega) (by omega)).mp z)) ⟨hin, ?_⟩
    by_cases d : it.1 = 2
    · exact br_t (by rw [d]; rfl) (mk 64 (by rw [d]; rfl))
    · refine br_f (fun z => d ((nI_eq (by omega) (by omega)).mp z)) ⟨hin, ?_⟩
      by_cases d2 : it.1 = 1
      · exact br_t (by rw [d2]; rfl) (mk 47 (by rw [d2]; rfl))
      · exact br_f (fun z => d2 ((nI_eq (by omega) (by omega)).mp z)) (mk 35 (by unfold en_mark; rw [if_neg d, if_neg d2]))
theorem ob_drop {α : Type} {a l : List α} {it : α} {i : Nat} (e : a.drop i = it :: l) : a[i]? = some it ∧ a.drop (i + 1) = l ∧ i < a.length ∧ it ∈ a := by
  have h1 : a[i]? = some it := by
    have := congrArg (fun z => z[0]?) e
    simpa using this
  have h2 : a.drop (i + 1) = l := by
    have := congrArg (fun z => z.drop 1) e
    simpa [List.drop_drop, Nat.add_comm] using this
  refine ⟨h1, h2, ?_, List.mem_of_getElem? h1⟩
  rcases Nat.lt_or_ge i a.length with z | z
  · exact z
  · rw [List.getElem?_eq_none z] at h1; simp at h1
theorem wr_obj56 {post : St1 → Prop} {J : Int32 → Int32 → Int32 → Int32 → Int32 → Int32 → Int32 → Int32 → Int32 → Int32 → Int32 → Int32 → Int32 → (Nat → Int32) → (Nat → Int32) → (Nat → Int32) → (Nat → Int32) → (Nat → Int32) → (Nat → Int32) → (Nat → Int32) → (Nat → Int32) → (Nat → Int32) → (Nat → Int32) → (Nat → Int32) → (Nat → Int32) → (Nat → Int32) → (Nat → Int32) → (Nat → Int32) → Prop} {h o i : Nat} {x : ob_Ob} {it : ob_It} {W : wr_T} (hh : h ≤ 1) (ho : o ≤ 8) (hf : ob_fit x) (hat : ob_at o x a1 a2 a3 a4 a5) (hi : x.2[i]? = some it) (hi6 : i < 6) (hr : wr_room ts W (en_val it ++ (if x.1 = 2 then [] else [44])).length) (H : J (nI (i + 1)) hN (nI h) ln ll rv (nI (wr_l ts h W (en_val it ++ (if x.1 = 2 then [] else [44]))).1) (nI (wr_l ts h W (en_val it ++ (if x.1 = 2 then [] else [44]))).2.1) (nI (wr_l ts h W (en_val it ++ (if x.1 = 2 then [] else [44]))).2.2.1) ts fr fs iu a1 a2 a3 a4 a5 a6 ((wr_l ts h W (en_val it ++ (if x.1 = 2 then [] else [44]))).2.2.2.1) a8 ((wr_l ts h W (en_val it ++ (if x.1 = 2 then [] else [44]))).2.2.2.2) a10 a11 a12 a13 a14 a15) : wX_bringObject_56 post J (nI o) (nI i) hN (nI h) ln ll rv (nI W.1) (nI W.2.1) (nI W.2.2.1) ts fr fs iu a1 a2 a3 a4 a5 a6 W.2.2.2.1 a8 W.2.2.2.2 a10 a11 a12 a13 a14 a15 := by
  have hm := hf.2.2 it (List.mem_of_getElem? hi)
  have hg := hat.2.2 i it hi
  have hf1 := hf.1
  unfold wX_bringObject_56
  rw [List.length_append] at hr
  refine wr_value (k := 6 * o + i) (it := it) hh (ob_ix o i) (by omega) hg.1 hg.2.1 ?_ ?_ (wr_roomM hr (by omega)) ⟨pk_in o 9 (by omega), ?_⟩
  · by_cases c : x.1 = 2
    · have := (hm.2.2.1 c).1; omega
    · have := hm.2.2.2 c; omega
  · intro c
    by_cases c2 : x.1 = 2
    · exact (hm.2.2.1 c2).2
    · have := hm.2.2.2 c2; omega
  · rw [nI_clamp (by omega), hat.1]
    rw [wr_app] at H
    by_cases c : x.1 = 2
    · rw [if_pos c] at H
      refine br_t (by rw [c]; rfl) (nm_r (nI_1 i) H)
    · rw [if_neg c] at H hr
      exact br_f (fun z => c ((nI_eq (by omega) (by omega)).mp z)) (wr_bring (c := 44) rfl hh (wr_roomL hr) (nm_r (nI_1 i) H))
theorem wr_obj15 {post : St1 → Prop} {h o : Nat} {x : ob_Ob} (hh : h ≤ 1) (ho : o ≤ 8) (hf : ob_fit x) (hat : ob_at o x a1 a2 a3 a4 a5) : ∀ (l : List ob_It) (i : Nat) (W : wr_T), i ≤ x.2.length → x.2.drop i = l → wr_room ts W ((en_its x.1 l).length + 1) → post (hN, nI h, ln, ll, rv, nI (wr_l ts h W (en_its x.1 l ++ [41])).1, nI (wr_l ts h W (en_its x.1 l ++ [41])).2.1, nI (wr_l ts h W (en_its x.1 l ++ [41])).2.2.1, ts, fr, fs, iu, a1, a2, a3, a4, a5, a6, (wr_l ts h W (en_its x.1 l ++ [41])).2.2.2.1, a8, (wr_l ts h W (en_its x.1 l ++ [41])).2.2.2.2, a10, a11, a12, a13, a14, a15) → wX_bringObject_15 post (nI o) (l.length + 1) (nI i) hN (nI h) ln ll rv (nI W.1) (nI W.2.1) (nI W.2.2.1) ts fr fs iu a1 a2 a3 a4 a5 a6 W.2.2.2.1 a8 W.2.2.2.2 a10 a11 a12 a13 a14 a15
  | [], i, W, hi, hd, hr, H => by
    have hf2 := hf.2.1
    have : x.2.length ≤ i := List.drop_eq_nil_iff.mp hd
    refine ⟨pk_in o 9 (by omega), ?_⟩
    rw [nI_clamp (by omega), hat.2.1]
    exact br_t (nI_le this (by omega)) (wr_bring (c := 41) rfl hh hr H)
  | it :: l, i, W, hi, hd, hr, H => by
    have hf2 := hf.2.1
    have hf1 := hf.1
    obtain ⟨d1, d2, d3, d4⟩ := ob_drop hd
    have hm := hf.2.2 it d4
    have hg := hat.2.2 i it d1
    rw [en_its, en_it, List.length_append, List.length_append] at hr
    rw [en_its, en_it, List.append_assoc, List.append_assoc, wr_app] at H
    refine ⟨pk_in o 9 (by omega), ?_⟩
    rw [nI_clamp (show o < 2 ^ 31 by omega), hat.2.1]
    refine br_f (nI_ge d3 (by omega)) ⟨pk_in o 9 (by omega), ?_⟩
    rw [hat.1]
    by_cases c : x.1 = 4
    · rw [if_pos c] at hr H
      rw [List.length_append] at hr
      rw [wr_app ts h W (en_nat it.2.2) [58], wr_one] at H
      refine br_t (by rw [c]; rfl) ⟨pk_in (6 * o + i) 54 (by omega) (ob_ix o i), ?_⟩
      rw [ob_cl o i ho (by omega), hg.2.2]
      refine wr_num hh ?_ ?_
      · rw [en_num_nI (by omega)]
        exact wr_roomM hr (by omega)
      · rw [en_num_nI (by omega)]
        refine wr_bring (c := 58) rfl hh (wr_roomM (wr_roomL (wr_roomM hr (Nat.le_refl _) |> fun z => wr_roomM z (show (en_nat it.2.2).length + 1 ≤ _ by simp only [List.length_cons, List.length_nil]; omega))) (Nat.le_refl _)) ?_
        refine wr_obj56 hh ho hf hat d1 (by omega) ?_ ?_
        · refine wr_room1 (wr_roomL (wr_roomM hr ?_))
          simp only [List.length_cons, List.length_nil]; omega
        · rw [wr_app] at H
          refine wr_obj15 hh ho hf hat l (i + 1) _ (by omega) d2 ?_ H
          refine wr_roomL (wr_room1 (wr_roomL (wr_roomM hr ?_)))
          simp only [List.length_cons, List.length_nil]; omega
    · rw [if_neg c] at hr H
      refine br_f (fun z => c ((nI_eq (by omega) (by omega)).mp z)) ?_
      refine wr_obj56 hh ho hf hat d1 (by omega) ?_ ?_
      · exact wr_roomM hr (by simp only [List.length_nil]; omega)
      · rw [wr_nil, wr_app] at H
        refine wr_obj15 hh ho hf hat l (i + 1) _ (by omega) d2 ?_ H
        refine wr_roomL (wr_roomM hr ?_)
        simp only [List.length_nil]; omega
theorem wr_obj {post : St1 → Prop} {h o : Nat} {x : ob_Ob} {W : wr_T} (hh : h ≤ 1) (ho : o ≤ 8) (hf : ob_fit x) (hat : ob_at o x a1 a2 a3 a4 a5) (hr : wr_room ts W (en_ob x).length) (H : post (hN, nI h, ln, ll, rv, nI (wr_l ts h W (en_ob x)).1, nI (wr_l ts h W (en_ob x)).2.1, nI (wr_l ts h W (en_ob x)).2.2.1, ts, fr, fs, iu, a1, a2, a3, a4, a5, a6, (wr_l ts h W (en_ob x)).2.2.2.1, a8, (wr_l ts h W (en_ob x)).2.2.2.2, a10, a11, a12, a13, a14, a15)) : wpX_bringObject post (hN, nI h, ln, ll, rv, nI W.1, nI W.2.1, nI W.2.2.1, ts, fr, fs, iu, a1, a2, a3, a4, a5, a6, W.2.2.2.1, a8, W.2.2.2.2, a10, a11, a12, a13, a14, a15) (nI o) := by
  have hf1 := hf.1
  refine ⟨pk_in o 9 (by omega), ?_⟩
  rw [nI_clamp (by omega), hat.1, ob_48]
  rw [en_ob, List.length_cons, List.length_append] at hr
  refine wr_bring (c := 48 + x.1) rfl hh (wr_roomM hr (by omega)) ⟨_, wr_obj15 hh ho hf hat x.2 0 _ (by omega) rfl (wr_room1 hr) H⟩
end
section
/-! reading objects: become, addValue, readText, readValues -/
variable {hN hf ln ll rv sl aw wl ts fr fs iu : Int32} {a1 a2 a3 a4 a5 a6 a7 a8 a9 a10 a11 a12 a13 a14 a15 : Nat → Int32}
theorem ob_become {post : Int32 → St1 → Prop} {o : Nat} {p1 : Int32} (ho : o ≤ 8) (H : post (a1 o) (hN, hf, ln, ll, rv, sl, aw, wl, ts, fr, fs, iu, upd a1 o p1, upd a2 o 0, a3, a4, a5, upd a6 o 1, a7, a8, a9, a10, a11, a12, a13, a14, a15)) : wpX_become post (hN, hf, ln, ll, rv, sl, aw, wl, ts, fr, fs, iu, a1, a2, a3, a4, a5, a6, a7, a8, a9, a10, a11, a12, a13, a14, a15) (nI o) p1 := by
  have hi : vp_in (nI o) 9 := pk_in o 9 (by omega)
  have hc : (nI o).toNatClampNeg = o := nI_clamp (by omega)
  exact ⟨hi, nm_r (by rw [hc]) ⟨hi, nm_r (by rw [hc]) ⟨hi, nm_r (by rw [hc]) ⟨hi, nm_r (by rw [hc]) H⟩⟩⟩⟩
theorem ob_add {post : Int32 → St1 → Prop} {o s : Nat} {p1 p2 : Int32} (ho : o ≤ 8) (hs : a2 o = nI s) (hs6 : s < 6) (H : post (nI (s + 1)) (hN, hf, ln, ll, rv, sl, aw, wl, ts, fr, fs, iu, a1, upd a2 o (nI (s + 1)), upd a3 (6 * o + s) p2, upd a4 (6 * o + s) p1, upd a5 (6 * o + s) 0, upd a6 o 1, a7, a8, a9, a10, a11, a12, a13, a14, a15)) : wpX_addValue post (hN, hf, ln, ll, rv, sl, aw, wl, ts, fr, fs, iu, a1, a2, a3, a4, a5, a6, a7, a8, a9, a10, a11, a12, a13, a14, a15) (nI o) p1 p2 := by
  have hi : vp_in (nI o) 9 := pk_in o 9 (by omega)
  have hc : (nI o).toNatClampNeg = o := nI_clamp (by omega)
  have hk : vp_in (nI (6 * o + s)) 54 := pk_in (6 * o + s) 54 (by omega)
  have hk2 : (nI (6 * o + s)).toNatClampNeg = 6 * o + s := nI_clamp (by omega)
  refine ⟨hi, nm_r (e' := nI (6 * o + s)) (by rw [hc, hs, ob_ix]) ⟨hk, nm_r (by rw [hk2]) ⟨hk, nm_r (by rw [hk2]) ⟨hk, nm_r (by rw [hk2]) ⟨hi, hi, nm_r (e' := upd a2 o (nI (s + 1))) (by rw [hc, hs, nI_1]) ⟨hi, nm_r (by rw [hc]) ⟨hi, ?_⟩⟩⟩⟩⟩⟩⟩
  rw [hc, pk_us]
  exact H
/-- nothing but object o is another one -/
def ob_chg (o : Nat) (a1 a2 a3 a4 a5 a6 a1' a2' a3' a4' a5' a6' : Nat → Int32) : Prop :=
  (∀ j, j ≠ o → a1' j = a1 j ∧ a2' j = a2 j ∧ a6' j = a6 j) ∧ (∀ j, j < 6 * o ∨ 6 * o + 6 ≤ j → a3' j = a3 j ∧ a4' j = a4 j ∧ a5' j = a5 j)
theorem ob_chg_r {o : Nat} : ob_chg o a1 a2 a3 a4 a5 a6 a1 a2 a3 a4 a5 a6 := ⟨fun _ _ => ⟨rfl, rfl, rfl⟩, fun _ _ => ⟨rfl, rfl, rfl⟩⟩
theorem ob_chg_t {o : Nat} {a1' a2' a3' a4' a5' a6' a1'' a2'' a3'' a4'' a5'' a6'' : Nat → Int32} (h : ob_chg o a1 a2 a3 a4 a5 a6 a1' a2' a3' a4' a5' a6') (g : ob_chg o a1' a2' a3' a4' a5' a6' a1'' a2'' a3'' a4'' a5'' a6'') : ob_chg o a1 a2 a3 a4 a5 a6 a1'' a2'' a3'' a4'' a5'' a6'' := by
  refine ⟨fun j hj => ?_, fun j hj => ?_⟩
  · have u := h.1 j hj
    have v := g.1 j hj
    exact ⟨by rw [v.1, u.1], by rw [v.2.1, u.2.1], by rw [v.2.2, u.2.2]⟩
  · have u := h.2 j hj
    have v := g.2 j hj
    exact ⟨by rw [v.1, u.1], by rw [v.2.1, u.2.1], by rw [v.2.2, u.2.2]⟩
theorem ob_chg_add {o s : Nat} {x y z : Int32} {a5' : Nat → Int32} {w : Int32} (hs : s < 6) (h5 : ∀ j, j ≠ 6 * o + s → a5' j = a5 j) : ob_chg o a1 a2 a3 a4 a5 a6 a1 (upd a2 o x) (upd a3 (6 * o + s) y) (upd a4 (6 * o + s) z) a5' (upd a6 o w) :=
  ⟨fun j hj => ⟨rfl, pk_un hj, pk_un hj⟩, fun j hj => ⟨pk_un (by omega), pk_un (by omega), h5 j (by omega)⟩⟩
theorem ob_chg_become {o : Nat} {x y w : Int32} : ob_chg o a1 a2 a3 a4 a5 a6 (upd a1 o x) (upd a2 o y) a3 a4 a5 (upd a6 o w) :=
  ⟨fun j hj => ⟨pk_un hj, pk_un hj, pk_un hj⟩, fun j hj => ⟨rfl, rfl, rfl⟩⟩
theorem ob_other {o j : Nat} {x : ob_Ob} {a1' a2' a3' a4' a5' a6' : Nat → Int32} (hx : x.2.length ≤ 6) (hj : j ≠ o) (h : ob_at j x a1 a2 a3 a4 a5) (c : ob_chg o a1 a2 a3 a4 a5 a6 a1' a2' a3' a4' a5' a6') : ob_at j x a1' a2' a3' a4' a5' := by
  refine ob_keep hx h (c.1 j hj).1 (c.1 j hj).2.1 (fun i hi => c.2 (6 * j + i) ?_)
  rcases Nat.lt_or_ge j o with z | z <;> omega
theorem ob_push {o k : Nat} {dn : List ob_It} {it : ob_It} {a5' : Nat → Int32} (hl : dn.length < 6) (h : ob_at o (k, dn) a1 a2 a3 a4 a5) (h5 : ∀ j, j ≠ 6 * o + dn.length → a5' j = a5 j) (h5' : a5' (6 * o + dn.length) = nI it.2.2) : ob_at o (k, dn ++ [it]) a1 (upd a2 o (nI (dn.length + 1))) (upd a3 (6 * o + dn.length) it.2.1) (upd a4 (6 * o + dn.length) (nI it.1)) a5' := by
  refine ⟨h.1, ?_, fun i jt hi => ?_⟩
  · rw [pk_us]; simp
  · dsimp only at hi
    rcases Nat.lt_trichotomy i dn.length with z | z | z
    · rw [List.getElem?_append_left z] at hi
      rw [pk_un (by omega), pk_un (by omega), h5 _ (by omega)]
      exact h.2.2 i jt hi
    · subst z
      rw [List.getElem?_append_right (Nat.le_refl _), Nat.sub_self] at hi
      simp only [List.getElem?_cons_zero, Option.some.injEq] at hi
      subst hi
      rw [pk_us, pk_us]
      exact ⟨rfl, rfl, h5'⟩
    · rw [List.getElem?_eq_none (by simp; omega)] at hi
      simp at hi
theorem rd_text5 {post : St1 → Prop} {h o : Nat} {x : ob_Ob} (hh : h ≤ 1) (ho : o ≤ 8) (hx : ob_fit x) (h2 : x.1 = 2) : ∀ (l dn : List ob_It) (p b : Nat) (a1 a2 a3 a4 a5 a6 : Nat → Int32), x.2 = dn ++ l → ob_at o (2, dn) a1 a2 a3 a4 a5 → sg_at (rd_g fs h a7 a9) p (en_its 2 l ++ [41]) → p + (en_its 2 l).length + 1 ≤ rd_lim fs → rd_g fs h a7 a9 p = nI b → b < 256 → (∀ a1' a2' a3' a4' a5' a6' : Nat → Int32, ob_chg o a1 a2 a3 a4 a5 a6 a1' a2' a3' a4' a5' a6' → ob_at o x a1' a2' a3' a4' a5' → post (hN, nI h, ln, ll, rv, sl, aw, wl, ts, nI (p + (en_its 2 l).length + 1), fs, iu, a1', a2', a3', a4', a5', a6', a7, a8, a9, a10, a11, a12, a13, a14, a15)) → wX_readText_5 post (nI o) (l.length + 1) (nI b) hN (nI h) ln ll rv sl aw wl ts (nI (p + 1)) fs iu a1 a2 a3 a4 a5 a6 a7 a8 a9 a10 a11 a12 a13 a14 a15
  | [], dn, p, b, a1, a2, a3, a4, a5, a6, hd, hat, hs, hl, hb, hb2, H => by
    have e : nI b = nI 41 := by rw [← hb]; exact hs.1
    refine br_t e ?_
    have H := H a1 a2 a3 a4 a5 a6 ob_chg_r (by rw [show x = (2, dn) from Prod.ext h2 (by rw [hd, List.append_nil])]; exact hat)
    exact H
  | it :: l, dn, p, b, a1, a2, a3, a4, a5, a6, hd, hat, hs, hl, hb, hb2, H => by
    have hm : it ∈ x.2 := by rw [hd]; simp
    have hlen := hx.2.1
    rw [hd] at hlen
    simp only [List.length_append, List.length_cons] at hlen
    obtain ⟨f1, f2, f3, f4⟩ := hx.2.2 it hm
    obtain ⟨g1, c, g2, g3⟩ := f3 h2
    have gk : it.2.2 = 0 := f2 (by omega)
    have gv : it.2.1.toNatClampNeg = c := by rw [g3, nI_clamp (by omega)]
    have hin : vp_in (nI o) 9 := pk_in o 9 (by omega)
    have lim := rd_lim_le fs
    have e2 : a2 o = nI dn.length := hat.2.1
    -- the step once the byte itself is known: q is where it stands
    have step : ∀ q : Nat, q + 1 + (en_its 2 l).length + 1 ≤ rd_lim fs → sg_at (rd_g fs h a7 a9) (q + 1) (en_its 2 l ++ [41]) → (q + 1 + (en_its 2 l).length + 1 = p + (en_its 2 (it :: l)).length + 1) → wX_readText_36 post (wX_readText_5 post (nI o) (l.length + 1)) (nI o) (nI c) hN (nI h) ln ll rv sl aw wl ts (nI (q + 1)) fs iu a1 a2 a3 a4 a5 a6 a7 a8 a9 a10 a11 a12 a13 a14 a15 := by
      intro q hq hsq he
      unfold wX_readText_36
      refine ob_add (s := dn.length) ho e2 (by omega) ?_
      have hb' : ∃ b', rd_g fs h a7 a9 (q + 1) = nI b' ∧ b' < 256 := by
        cases l with
        | nil => exact ⟨41, hsq.1, by omega⟩
        | cons jt l' =>
          obtain ⟨k1, k2, k3, k4⟩ := hx.2.2 jt (by rw [hd]; simp)
          obtain ⟨m1, d, m2, m3⟩ := k3 h2
          rw [en_its, en_it, en_val, if_pos m1] at hsq
          by_cases z : jt.2.1 = 41 ∨ jt.2.1 = 92
          · rw [if_pos z] at hsq
            exact ⟨92, hsq.1, by omega⟩
          · rw [if_neg z, m3, nI_clamp (by omega)] at hsq
            exact ⟨d, hsq.1, m2⟩
      obtain ⟨b', hb1, hb2⟩ := hb'
      refine rd_take (c := b') hh (by omega) hb1 ?_
      have hp := ob_push (a5' := upd a5 (6 * o + dn.length) 0) (it := it) (by omega) hat (fun j hj => pk_un hj) (by rw [pk_us, gk]; rfl)
      rw [g1, g3] at hp
      refine rd_text5 hh ho hx h2 l (dn ++ [it]) (q + 1) b' _ _ _ _ _ _ (by rw [hd]; simp) hp hsq hq hb1 hb2 (fun a1' a2' a3' a4' a5' a6' hc hx' => ?_)
      rw [he]
      exact H a1' a2' a3' a4' a5' a6' (ob_chg_t (ob_chg_add (by omega) (fun j hj => pk_un hj)) hc) hx'
    have hsz : ¬ (6 : Int32) ≤ a2 (nI o).toNatClampNeg := by
      rw [nI_clamp (by omega), e2]
      exact nI_ge (b := 6) (by omega) (by decide)
    rw [en_its, en_it, if_neg (show ¬ 2 = 4 by omega), if_pos (show 2 = 2 from rfl), List.append_nil, List.nil_append, en_val, if_pos g1] at hs hl
    have el : en_its 2 (it :: l) = en_val it ++ en_its 2 l := by rw [en_its, en_it, if_neg (show ¬ 2 = 4 by omega), if_pos (show 2 = 2 from rfl), List.append_nil, List.nil_append]
    by_cases z : it.2.1 = 41 ∨ it.2.1 = 92
    · rw [if_pos z, gv] at hs hl
      have ev : en_val it = [92, c] := by rw [en_val, if_pos g1, if_pos z, gv]
      have e : nI b = nI 92 := by rw [← hb]; exact hs.1
      rw [e]
      simp only [List.length_append, List.length_cons, List.length_nil] at hl
      refine br_f (by decide) ⟨hin, br_f hsz (br_t rfl (rd_take (c := c) hh (by omega) hs.2.1 ?_))⟩
      refine step (p + 1) (by omega) hs.2.2 ?_
      rw [el, ev]
      simp only [List.length_append, List.length_cons, List.length_nil]
      omega
    · rw [if_neg z, gv] at hs hl
      have ev : en_val it = [c] := by rw [en_val, if_pos g1, if_neg z, gv]
      have e : nI b = nI c := by rw [← hb]; exact hs.1
      rw [e]
      simp only [List.length_append, List.length_cons, List.length_nil] at hl
      refine br_f (fun w => z (Or.inl (by rw [g3]; exact w))) ⟨hin, br_f hsz (br_f (fun w => z (Or.inr (by rw [g3]; exact w))) ?_)⟩
      refine step p (by omega) hs.2 ?_
      rw [el, ev]
      simp only [List.length_append, List.length_cons, List.length_nil]
      omega
theorem rd_text {post : St1 → Prop} {h o p : Nat} {x : ob_Ob} (hh : h ≤ 1) (ho : o ≤ 8) (hx : ob_fit x) (h2 : x.1 = 2) (hat : ob_at o (2, []) a1 a2 a3 a4 a5) (hs : sg_at (rd_g fs h a7 a9) p (en_its 2 x.2 ++ [41])) (hl : p + (en_its 2 x.2).length + 1 ≤ rd_lim fs) (H : ∀ a1' a2' a3' a4' a5' a6' : Nat → Int32, ob_chg o a1 a2 a3 a4 a5 a6 a1' a2' a3' a4' a5' a6' → ob_at o x a1' a2' a3' a4' a5' → post (hN, nI h, ln, ll, rv, sl, aw, wl, ts, nI (p + (en_its 2 x.2).length + 1), fs, iu, a1', a2', a3', a4', a5', a6', a7, a8, a9, a10, a11, a12, a13, a14, a15)) : wpX_readText post (hN, nI h, ln, ll, rv, sl, aw, wl, ts, nI p, fs, iu, a1, a2, a3, a4, a5, a6, a7, a8, a9, a10, a11, a12, a13, a14, a15) (nI o) := by
  have hb' : ∃ b', rd_g fs h a7 a9 p = nI b' ∧ b' < 256 := by
    cases hl2 : x.2 with
    | nil => rw [hl2] at hs; exact ⟨41, hs.1, by omega⟩
    | cons jt l' =>
      obtain ⟨k1, k2, k3, k4⟩ := hx.2.2 jt (by rw [hl2]; simp)
      obtain ⟨m1, d, m2, m3⟩ := k3 h2
      rw [hl2, en_its, en_it, en_val, if_pos m1] at hs
      by_cases z : jt.2.1 = 41 ∨ jt.2.1 = 92
      · rw [if_pos z] at hs
        exact ⟨92, hs.1, by omega⟩
      · rw [if_neg z, m3, nI_clamp (by omega)] at hs
        exact ⟨d, hs.1, m2⟩
  obtain ⟨b', hb1, hb2⟩ := hb'
  unfold wpX_readText
  exact rd_take (c := b') hh (by omega) hb1 ⟨_, rd_text5 hh ho hx h2 x.2 [] p b' a1 a2 a3 a4 a5 a6 rfl hat hs hl hb1 hb2 H⟩
theorem rd_mark {k : Nat} (hk : k ≤ 2) : en_mark k < 256 ∧ (k = 2 → en_mark k = 64) ∧ (k = 1 → en_mark k = 47) ∧ (k = 0 → en_mark k = 35) := by
  have : k = 0 ∨ k = 1 ∨ k = 2 := by omega
  rcases this with rfl | rfl | rfl <;> decide
theorem rd_vals80 {post : St1 → Prop} {J : Int32 → Int32 → Int32 → Int32 → Int32 → Int32 → Int32 → Int32 → Int32 → Int32 → Int32 → Int32 → (Nat → Int32) → (Nat → Int32) → (Nat → Int32) → (Nat → Int32) → (Nat → Int32) → (Nat → Int32) → (Nat → Int32) → (Nat → Int32) → (Nat → Int32) → (Nat → Int32) → (Nat → Int32) → (Nat → Int32) → (Nat → Int32) → (Nat → Int32) → (Nat → Int32) → Prop} {o s : Nat} {key v z0 : Int32} (ho : o ≤ 8) (hs : a2 o = nI s) (hs6 : s < 6) (H : J hN hf ln ll rv sl aw wl ts fr fs iu a1 (upd a2 o (nI (s + 1))) (upd a3 (6 * o + s) v) (upd a4 (6 * o + s) z0) (upd (upd a5 (6 * o + s) 0) (6 * o + s) key) (upd a6 o 1) a7 a8 a9 a10 a11 a12 a13 a14 a15) : wX_readValues_80 post J (nI o) key v z0 (nI o) hN hf ln ll rv sl aw wl ts fr fs iu a1 a2 a3 a4 a5 a6 a7 a8 a9 a10 a11 a12 a13 a14 a15 := by
  unfold wX_readValues_80
  have hc : (nI o).toNatClampNeg = o := nI_clamp (by omega)
  refine ob_add ho hs hs6 ⟨pk_in o 9 (by omega), ?_⟩
  have e : (6 : Int32) * nI o + upd a2 o (nI (s + 1)) (nI o).toNatClampNeg - 1 = nI (6 * o + s) := by
    rw [hc, pk_us, ob_ix, show 6 * o + (s + 1) = 6 * o + s + 1 by omega, nI_pred]
  rw [e]
  exact ⟨pk_in (6 * o + s) 54 (by omega), nm_r (by rw [nI_clamp (by omega)]) H⟩
theorem rd_vals36 {post : St1 → Prop} {J : Int32 → Int32 → Int32 → Int32 → Int32 → Int32 → Int32 → Int32 → Int32 → Int32 → Int32 → Int32 → (Nat → Int32) → (Nat → Int32) → (Nat → Int32) → (Nat → Int32) → (Nat → Int32) → (Nat → Int32) → (Nat → Int32) → (Nat → Int32) → (Nat → Int32) → (Nat → Int32) → (Nat → Int32) → (Nat → Int32) → (Nat → Int32) → (Nat → Int32) → (Nat → Int32) → Prop} {h o s p : Nat} {it : ob_It} {bs : List Nat} {key : Int32} (hh : h ≤ 1) (ho : o ≤ 8) (hs : a2 o = nI s) (hs6 : s < 6) (hk : it.1 ≤ 2) (hsg : sg_at (rd_g fs h a7 a9) p (en_val it ++ [44] ++ bs)) (hl : p + (en_val it).length + 1 ≤ rd_lim fs) (H : J hN (nI h) ln ll rv sl aw wl ts (nI (p + (en_val it).length + 1)) fs iu a1 (upd a2 o (nI (s + 1))) (upd a3 (6 * o + s) it.2.1) (upd a4 (6 * o + s) (nI it.1)) (upd (upd a5 (6 * o + s) 0) (6 * o + s) key) (upd a6 o 1) a7 a8 a9 a10 a11 a12 a13 a14 a15) : wX_readValues_36 post J (nI o) key hN (nI h) ln ll rv sl aw wl ts (nI p) fs iu a1 a2 a3 a4 a5 a6 a7 a8 a9 a10 a11 a12 a13 a14 a15 := by
  rw [en_val, if_neg (by omega), List.length_cons] at hl H
  rw [en_val, if_neg (by omega), List.append_assoc, List.cons_append] at hsg
  have hm := rd_mark hk
  have lim := rd_lim_le fs
  unfold wX_readValues_36
  refine rd_take (c := en_mark it.1) hh (by omega) hsg.1 (rd_num (v := it.2.1) (c := 44) hh (by omega) (by omega) (by omega) ?_ (nm_r (e' := nI (p + ((en_num it.2.1).length + 1) + 1)) ?_ ?_))
  · have := hsg.2
    rw [← List.append_assoc] at this
    exact sg_l this
  · rw [nI_1]; congr 1; omega
  · by_cases c : it.1 = 2
    · rw [c] at H
      exact br_t (by rw [hm.2.1 c]; rfl) (rd_vals80 ho hs hs6 H)
    · refine br_f (fun z => ?_) ?_
      · have := (nI_eq (a := en_mark it.1) (b := 64) (by omega) (by omega)).mp z
        have : it.1 = 0 ∨ it.1 = 1 := by omega
        rcases this with w | w
        · have := hm.2.2.2 w; omega
        · have := hm.2.2.1 w; omega
      · by_cases c1 : it.1 = 1
        · rw [c1] at H
          exact br_t (by rw [hm.2.2.1 c1]; rfl) (rd_vals80 ho hs hs6 H)
        · have c0 : it.1 = 0 := by omega
          rw [c0] at H
          exact br_f (by rw [hm.2.2.2 c0]; decide) (rd_vals80 ho hs hs6 H)
theorem rd_vals0 {post : St1 → Prop} {h o : Nat} {x : ob_Ob} (hh : h ≤ 1) (ho : o ≤ 8) (hx : ob_fit x) (h2 : ¬ x.1 = 2) : ∀ (l dn : List ob_It) (p : Nat) (a1 a2 a3 a4 a5 a6 : Nat → Int32), x.2 = dn ++ l → ob_at o (x.1, dn) a1 a2 a3 a4 a5 → sg_at (rd_g fs h a7 a9) p (en_its x.1 l ++ [41]) → p + (en_its x.1 l).length + 1 ≤ rd_lim fs → (∀ a1' a2' a3' a4' a5' a6' : Nat → Int32, ob_chg o a1 a2 a3 a4 a5 a6 a1' a2' a3' a4' a5' a6' → ob_at o x a1' a2' a3' a4' a5' → post (hN, nI h, ln, ll, rv, sl, aw, wl, ts, nI (p + (en_its x.1 l).length), fs, iu, a1', a2', a3', a4', a5', a6', a7, a8, a9, a10, a11, a12, a13, a14, a15)) → wX_readValues_0 post (nI o) (l.length + 1) hN (nI h) ln ll rv sl aw wl ts (nI p) fs iu a1 a2 a3 a4 a5 a6 a7 a8 a9 a10 a11 a12 a13 a14 a15
  | [], dn, p, a1, a2, a3, a4, a5, a6, hd, hat, hs, hl, H => by
    unfold wX_readValues_0
    refine rd_peek (c := 41) hh (by omega) hs.1 (br_t rfl ?_)
    have H := H a1 a2 a3 a4 a5 a6 ob_chg_r (by rw [show x = (x.1, dn) from Prod.ext rfl (by rw [hd, List.append_nil])]; exact hat)
    exact H
  | it :: l, dn, p, a1, a2, a3, a4, a5, a6, hd, hat, hs, hl, H => by
    have hm : it ∈ x.2 := by rw [hd]; simp
    have hlen := hx.2.1
    rw [hd] at hlen
    simp only [List.length_append, List.length_cons] at hlen
    obtain ⟨f1, f2, f3, f4⟩ := hx.2.2 it hm
    have g1 := f4 h2
    have hf1 := hx.1
    have hin : vp_in (nI o) 9 := pk_in o 9 (by omega)
    have hc : (nI o).toNatClampNeg = o := nI_clamp (by omega)
    have lim := rd_lim_le fs
    have e2 : a2 o = nI dn.length := hat.2.1
    have el : en_its x.1 (it :: l) = (if x.1 = 4 then en_nat it.2.2 ++ [58] else []) ++ (en_val it ++ [44] ++ en_its x.1 l) := by
      rw [en_its, en_it, if_neg h2, List.append_assoc]
    have step : ∀ q : Nat, q + (en_val it).length + 1 + (en_its x.1 l).length + 1 ≤ rd_lim fs → sg_at (rd_g fs h a7 a9) q (en_val it ++ [44] ++ (en_its x.1 l ++ [41])) → (q + (en_val it).length + 1 + (en_its x.1 l).length = p + (en_its x.1 (it :: l)).length) → wX_readValues_36 post (wX_readValues_0 post (nI o) (l.length + 1)) (nI o) (nI it.2.2) hN (nI h) ln ll rv sl aw wl ts (nI q) fs iu a1 a2 a3 a4 a5 a6 a7 a8 a9 a10 a11 a12 a13 a14 a15 := by
      intro q hq hsq he
      refine rd_vals36 (s := dn.length) (it := it) hh ho e2 (by omega) g1 hsq (by omega) ?_
      have h5 : ∀ j, j ≠ 6 * o + dn.length → upd (upd a5 (6 * o + dn.length) 0) (6 * o + dn.length) (nI it.2.2) j = a5 j := fun j hj => by rw [pk_un hj, pk_un hj]
      have hp := ob_push (it := it) (by omega) hat h5 pk_us
      have hsq2 := sg_r hsq
      rw [List.length_append, List.length_cons, List.length_nil, ← Nat.add_assoc] at hsq2
      refine rd_vals0 hh ho hx h2 l (dn ++ [it]) _ _ _ _ _ _ _ (by rw [hd]; simp) hp hsq2 hq (fun a1' a2' a3' a4' a5' a6' hc hx' => ?_)
      rw [he]
      exact H a1' a2' a3' a4' a5' a6' (ob_chg_t (ob_chg_add (by omega) h5) hc) hx'
    have first : ∃ b, rd_g fs h a7 a9 p = nI b ∧ b < 256 ∧ b ≠ 41 := by
      rw [el] at hs
      by_cases c : x.1 = 4
      · rw [if_pos c] at hs
        rw [en_nat, en_dgs] at hs
        refine ⟨_, hs.1, ?_, ?_⟩
        · have : it.2.2 / 10 ^ (en_ct it.2.2 9 0) % 10 < 10 := Nat.mod_lt _ (by omega)
          omega
        · omega
      · rw [if_neg c, en_val, if_neg (by omega)] at hs
        refine ⟨_, hs.1, (rd_mark g1).1, ?_⟩
        have hm := rd_mark g1
        have : it.1 = 0 ∨ it.1 = 1 ∨ it.1 = 2 := by omega
        rcases this with w | w | w
        · have := hm.2.2.2 w; omega
        · have := hm.2.2.1 w; omega
        · have := hm.2.1 w; omega
    obtain ⟨b, hb1, hb2, hb3⟩ := first
    have hpos : p < rd_lim fs := by omega
    unfold wX_readValues_0
    refine rd_peek (c := b) hh hpos hb1 (br_f (fun z => hb3 ((nI_eq (by omega) (by omega)).mp z)) ⟨hin, ?_⟩)
    rw [hc, show a1 o = nI x.1 from hat.1]
    rw [el] at hs hl
    by_cases c : x.1 = 4
    · rw [if_pos c] at hs hl
      rw [List.append_assoc, List.append_assoc] at hs
      have hs1 := (sg_app _ _ _ _).mp hs
      have hs2 := (sg_app _ _ _ _).mp hs1.2
      simp only [List.length_append, List.length_cons, List.length_nil] at hl
      refine br_t (by rw [c]; rfl) (rd_num (v := nI it.2.2) (c := 58) hh (by omega) (by omega) ?_ ?_ (nm_r (nI_1 _) (step _ ?_ ?_ ?_)))
      · rw [en_num_nI (by omega)]; omega
      · rw [en_num_nI (by omega)]
        exact (sg_app _ _ _ _).mpr ⟨hs1.1, hs2.1⟩
      · rw [en_num_nI (by omega)]; omega
      · rw [en_num_nI (by omega)]
        have := hs2.2
        rw [List.length_cons, List.length_nil] at this
        rw [← List.append_assoc]
        exact this
      · rw [en_num_nI (by omega), el, if_pos c]
        simp only [List.length_append, List.length_cons, List.length_nil]
        omega
    · rw [if_neg c] at hs hl
      rw [List.nil_append] at hs hl
      simp only [List.length_append, List.length_cons, List.length_nil] at hl
      have st := step p (by omega) (by rw [← List.append_assoc]; exact hs) (by rw [el, if_neg c]; simp only [List.length_append, List.length_cons, List.length_nil]; omega)
      rw [f2 c] at st
      exact br_f (fun z => c ((nI_eq (by omega) (by omega)).mp z)) st
theorem rd_vals {post : St1 → Prop} {h o p : Nat} {x : ob_Ob} (hh : h ≤ 1) (ho : o ≤ 8) (hx : ob_fit x) (h2 : ¬ x.1 = 2) (hat : ob_at o (x.1, []) a1 a2 a3 a4 a5) (hs : sg_at (rd_g fs h a7 a9) p (en_its x.1 x.2 ++ [41])) (hl : p + (en_its x.1 x.2).length + 1 ≤ rd_lim fs) (H : ∀ a1' a2' a3' a4' a5' a6' : Nat → Int32, ob_chg o a1 a2 a3 a4 a5 a6 a1' a2' a3' a4' a5' a6' → ob_at o x a1' a2' a3' a4' a5' → post (hN, nI h, ln, ll, rv, sl, aw, wl, ts, nI (p + (en_its x.1 x.2).length), fs, iu, a1', a2', a3', a4', a5', a6', a7, a8, a9, a10, a11, a12, a13, a14, a15)) : wpX_readValues post (hN, nI h, ln, ll, rv, sl, aw, wl, ts, nI p, fs, iu, a1, a2, a3, a4, a5, a6, a7, a8, a9, a10, a11, a12, a13, a14, a15) (nI o) :=
  ⟨_, rd_vals0 hh ho hx h2 x.2 [] p a1 a2 a3 a4 a5 a6 rfl hat hs hl H⟩
theorem rd_obj8 {post : St1 → Prop} {h o p b : Nat} {x : ob_Ob} {fs' : Int32} (hh : h ≤ 1) (ho : o ≤ 8) (hb : b ≤ 1) (hfs : fs' = nI b) (hx : ob_fit x) (hs : sg_at (rd_g fs' h a7 a9) p (en_ob x)) (hl : p + (en_ob x).length ≤ rd_lim fs') (H : ∀ (q : Nat) (a1' a2' a3' a4' a5' a6' : Nat → Int32), ob_chg o a1 a2 a3 a4 a5 a6 a1' a2' a3' a4' a5' a6' → ob_at o x a1' a2' a3' a4' a5' → post (hN, nI h, ln, ll, rv, sl, aw, wl, ts, nI q, 0, iu, a1', a2', a3', a4', a5', a6', a7, a8, a9, a10, a11, a12, a13, a14, a15)) : wX_readObject_8 post (nI o) (nI p) fs' hN (nI h) ln ll rv sl aw wl ts fr fs iu a1 a2 a3 a4 a5 a6 a7 a8 a9 a10 a11 a12 a13 a14 a15 := by
  have lim := rd_lim_le fs'
  have hf1 := hx.1
  unfold wX_readObject_8
  rw [en_ob, List.length_cons, List.length_append, List.length_cons, List.length_nil] at hl
  rw [en_ob] at hs
  have hbb : narrow .boolean (.int fs') = .int fs' ∧ fits .boolean (.int fs') = true := by
    have : b = 0 ∨ b = 1 := by omega
    rcases this with rfl | rfl
    · rw [hfs]; exact ⟨rfl, rfl⟩
    · rw [hfs]; exact ⟨rfl, rfl⟩
  refine ⟨hbb.1, hbb.2, rd_take (c := 48 + x.1) hh (by omega) hs.1 (nm_r (ob_m48 x.1) (ob_become ho ?_))⟩
  have hat : ∀ k : Nat, ob_at o (k, []) (upd a1 o (nI k)) (upd a2 o 0) a3 a4 a5 := fun k => ⟨pk_us, pk_us, fun i it hi => by simp at hi⟩
  by_cases c : x.1 = 2
  · refine br_t (by rw [c]; rfl) (rd_text (x := x) hh ho hx c (by rw [c]; exact hat 2) (by have := hs.2; rw [c] at this; exact this) (by rw [c] at hl; omega) (fun a1' a2' a3' a4' a5' a6' hc hx' => ?_))
    exact H _ a1' a2' a3' a4' a5' a6' (ob_chg_t ob_chg_become hc) hx'
  · refine br_f (fun z => c ((nI_eq (by omega) (by omega)).mp z)) (rd_vals (x := x) hh ho hx c (hat x.1) hs.2 (by omega) (fun a1' a2' a3' a4' a5' a6' hc hx' => ?_))
    exact H _ a1' a2' a3' a4' a5' a6' (ob_chg_t ob_chg_become hc) hx'
end
section
/-! runs: unpack and bringRuns -/
variable {hN hf ln ll rv sl aw wl ts fr fs iu : Int32} {a1 a2 a3 a4 a5 a6 a7 a8 a9 a10 a11 a12 a13 a14 a15 : Nat → Int32}
def fi_g (h : Nat) (a7 : Nat → Int32) : Nat → Int32 := fun p => a7 (3700 * h + p) &&& 255
theorem rd_g0 (h : Nat) (a7 a9 : Nat → Int32) : rd_g 0 h a7 a9 = fi_g h a7 := by
  funext p
  unfold rd_g fi_g
  rw [if_pos rfl]
theorem rd_g1 {fs : Int32} (hf : ¬ fs = 0) (h : Nat) (a7 a9 : Nat → Int32) : rd_g fs h a7 a9 = a9 := by
  funext p
  unfold rd_g
  rw [if_neg hf]
theorem rd_lim0 : rd_lim 0 = 3700 := rfl
theorem rd_lim1 : rd_lim 1 = 700 := rfl
def ru_ex : List (Nat × Nat) → List Nat
  | [] => []
  | r :: rs => List.replicate r.1 r.2 ++ ru_ex rs
def ru_by : List (Nat × Nat) → List Nat
  | [] => []
  | r :: rs => r.1 :: r.2 :: ru_by rs
def ru_ok (rs : List (Nat × Nat)) : Prop := ∀ r ∈ rs, 1 ≤ r.1 ∧ r.1 ≤ 255 ∧ r.2 < 256
theorem ru_by_len : ∀ rs : List (Nat × Nat), (ru_by rs).length = 2 * rs.length
  | [] => rfl
  | r :: rs => by rw [ru_by, List.length_cons, List.length_cons, ru_by_len rs, List.length_cons]; omega
theorem ru_ex_len : ∀ rs : List (Nat × Nat), ru_ok rs → rs.length ≤ (ru_ex rs).length
  | [], _ => by simp
  | r :: rs, h => by
    have h1 := (h r (by simp)).1
    have := ru_ex_len rs (fun x hx => h x (by simp [hx]))
    rw [ru_ex, List.length_append, List.length_replicate, List.length_cons]
    omega
theorem un_64 {post : St1 → Prop} {J : Int32 → Int32 → Int32 → Int32 → Int32 → Int32 → Int32 → Int32 → Int32 → Int32 → Int32 → Int32 → Int32 → (Nat → Int32) → (Nat → Int32) → (Nat → Int32) → (Nat → Int32) → (Nat → Int32) → (Nat → Int32) → (Nat → Int32) → (Nat → Int32) → (Nat → Int32) → (Nat → Int32) → (Nat → Int32) → (Nat → Int32) → (Nat → Int32) → (Nat → Int32) → (Nat → Int32) → Prop} {x3 : Int32} {n m : Nat} (hm : m ≤ 700) (hn : n ≤ 255) : ∀ (rem j i : Nat) (a9 : Nat → Int32), j + rem = n → i + rem ≤ m → (∀ a9' : Nat → Int32, (∀ t, t < i → a9' t = a9 t) → (∀ t, i ≤ t → t < i + rem → a9' t = x3) → J (nI (i + rem)) hN hf ln ll rv (nI m) aw wl ts fr fs iu a1 a2 a3 a4 a5 a6 a7 a8 a9' a10 a11 a12 a13 a14 a15) → wX_unpack_64 post J (nI n) x3 hN hf ln ll rv (nI m) aw wl ts fr fs iu (rem + 1) (nI i) (nI j) a1 a2 a3 a4 a5 a6 a7 a8 a9 a10 a11 a12 a13 a14 a15
  | 0, j, i, a9, hj, hi, H => by
    exact br_t (nI_le (by omega) (by omega)) (H a9 (fun _ _ => rfl) (fun t h1 h2 => absurd h2 (by omega)))
  | rem + 1, j, i, a9, hj, hi, H => by
    refine br_f (nI_ge (by omega) (by omega)) (br_f (nI_ge (by omega) (by omega)) ⟨pk_in i 700 (by omega), nm_r (by rw [nI_clamp (by omega)]) (nm_r (nI_1 i) (nm_r (nI_1 j) ?_))⟩)
    refine un_64 hm hn rem (j + 1) (i + 1) (upd a9 i x3) (by omega) (by omega) (fun a9' h1 h2 => ?_)
    rw [show i + 1 + rem = i + (rem + 1) by omega]
    refine H a9' (fun t ht => ?_) (fun t ht1 ht2 => ?_)
    · rw [h1 t (by omega), pk_un (by omega)]
    · by_cases c : t = i
      · rw [c, h1 i (by omega), pk_us]
      · exact h2 t (by omega) (by omega)
theorem sg_ext {g g' : Nat → Int32} {c : Nat} {xs : List Nat} {n : Nat} (h : sg_at g 0 xs) (h1 : ∀ t, t < xs.length → g' t = g t) (h2 : ∀ t, xs.length ≤ t → t < xs.length + n → g' t = nI c) : sg_at g' 0 (xs ++ List.replicate n c) := by
  refine (sg_app _ _ _ _).mpr ⟨sg_keep xs 0 (fun j _ hj => h1 j (by omega)) h, sg_of (fun i b hi => ?_)⟩
  rw [List.getElem?_replicate] at hi
  by_cases c : i < n
  · rw [if_pos c, Option.some.injEq] at hi
    rw [← hi]
    exact h2 _ (by omega) (by omega)
  · rw [if_neg c] at hi; simp at hi
theorem un_43 {post : St1 → Prop} {h m : Nat} (hh : h ≤ 1) (hm : m ≤ 700) : ∀ (rs : List (Nat × Nat)) (dn : List Nat) (p : Nat) (a9 : Nat → Int32), ru_ok rs → (dn ++ ru_ex rs).length = m → sg_at a9 0 dn → sg_at (fi_g h a7) p (ru_by rs) → p + (ru_by rs).length ≤ 3700 → (∀ (q : Nat) (a9' : Nat → Int32), sg_at a9' 0 (dn ++ ru_ex rs) → post (hN, nI h, ln, ll, rv, nI m, aw, wl, ts, nI q, 0, iu, a1, a2, a3, a4, a5, a6, a7, a8, a9', a10, a11, a12, a13, a14, a15)) → wX_unpack_43 post (rs.length + 1) (nI dn.length) hN (nI h) ln ll rv (nI m) aw wl ts (nI p) 0 iu a1 a2 a3 a4 a5 a6 a7 a8 a9 a10 a11 a12 a13 a14 a15
  | [], dn, p, a9, _, hl, hd, _, _, H => by
    rw [ru_ex, List.append_nil] at hl
    refine br_t (nI_le (by omega) (by omega)) ?_
    have H := H p a9 (by rw [ru_ex, List.append_nil]; exact hd)
    exact H
  | r :: rs, dn, p, a9, hok, hl, hd, hs, hlim, H => by
    obtain ⟨k1, k2, k3⟩ := hok r (by simp)
    have hl' := hl
    rw [ru_ex, List.length_append, List.length_append, List.length_replicate] at hl'
    rw [ru_by, List.length_cons, List.length_cons] at hlim
    have hg := rd_g0 h a7 a9
    refine br_f (nI_ge (by omega) (by omega)) ?_
    refine rd_take (c := r.1) hh (by rw [rd_lim0]; omega) (by rw [hg]; exact hs.1) ?_
    refine rd_take (c := r.2) hh (by rw [rd_lim0]; omega) (by rw [hg]; exact hs.2.1) ⟨r.1 + 1, ?_⟩
    refine un_64 hm k2 r.1 0 dn.length a9 (by omega) (by omega) (fun a9' h1 h2 => ?_)
    have hd' : sg_at a9' 0 (dn ++ List.replicate r.1 r.2) := sg_ext hd h1 h2
    have el : (dn ++ List.replicate r.1 r.2).length = dn.length + r.1 := by rw [List.length_append, List.length_replicate]
    have t := un_43 (post := post) hh hm rs (dn ++ List.replicate r.1 r.2) (p + 1 + 1) a9' (fun x hx => hok x (by simp [hx])) (by rw [List.append_assoc]; exact hl) hd' hs.2.2 (by omega) (fun q a9'' hq => H q a9'' (by rw [ru_ex, ← List.append_assoc]; exact hq))
    rw [el] at t
    exact t
/-- the runs that stand at the beginning of a half -/
def ru_file (g : Nat → Int32) (rs : List (Nat × Nat)) : Prop := ru_ok rs ∧ (ru_ex rs).length ≤ 432 ∧ sg_at g 0 (en_nat (ru_ex rs).length ++ [58] ++ ru_by rs)
theorem un_pack {post : St1 → Prop} {h : Nat} {rs : List (Nat × Nat)} (hh : h ≤ 1) (hf : ru_file (fi_g h a7) rs) (hu : ¬ iu = 0 → sg_at a9 0 (ru_ex rs)) (H : ∀ (sl' iu' fr' fs' : Int32) (a9' : Nat → Int32), (¬ iu' = 0 → sg_at a9' 0 (ru_ex rs)) → ¬ iu' = 0 → post (hN, nI h, ln, ll, rv, sl', aw, wl, ts, fr', fs', iu', a1, a2, a3, a4, a5, a6, a7, a8, a9', a10, a11, a12, a13, a14, a15)) : wpX_unpack post (hN, nI h, ln, ll, rv, sl, aw, wl, ts, fr, fs, iu, a1, a2, a3, a4, a5, a6, a7, a8, a9, a10, a11, a12, a13, a14, a15) := by
  by_cases c : iu = 0
  · obtain ⟨f1, f2, f3⟩ := hf
    have e3 : (en_nat (ru_ex rs).length).length ≤ 3 := en_nat_len (k := 2) (by omega)
    have h2 := ru_by_len rs
    have h3 := ru_ex_len rs f1
    have g1 := (sg_app _ _ _ _).mp f3
    rw [List.length_append, List.length_cons, List.length_nil, Nat.zero_add] at g1
    refine br_t c (rd_num (v := nI (ru_ex rs).length) (p := 0) (c := 58) hh (by omega) (by omega) ?_ ?_ (nm_r (nI_1 _) ⟨rs.length + 1, ?_⟩))
    · rw [en_num_nI (by omega), rd_lim0]; omega
    · rw [en_num_nI (by omega), rd_g0]; exact g1.1
    · rw [en_num_nI (by omega), Nat.zero_add]
      exact un_43 (post := post) (m := (ru_ex rs).length) hh (by omega) rs [] _ a9 f1 rfl trivial g1.2 (by omega) (fun q a9' hq => H _ _ _ _ _ (fun _ => hq) (by decide))
  · exact br_f c (H _ _ _ _ _ hu c)
theorem wr_s0 {h : Nat} : ∀ {bs : List Nat} {W : wr_T}, (wr_l 0 h W bs).1 = W.1 ∧ (wr_l 0 h W bs).2.2.2.2 = W.2.2.2.2
  | [], W => ⟨rfl, rfl⟩
  | b :: bs, W => by
    have := wr_s0 (h := h) (bs := bs) (W := wr_1 0 h W b)
    rw [wr_cons, this.1, this.2]
    unfold wr_1
    rw [if_pos rfl]
    exact ⟨rfl, rfl⟩
theorem ru_rep {α : Type} (a : List α) (b : α) (i : Nat) : ∀ c, (∀ t, t < c → a[i + t]? = some b) → a.drop i = List.replicate c b ++ a.drop (i + c)
  | 0, _ => by simp
  | c + 1, h => by
    have ih := ru_rep a b i c (fun t ht => h t (by omega))
    have hc := h c (by omega)
    have hlt : i + c < a.length := by
      rcases Nat.lt_or_ge (i + c) a.length with z | z
      · exact z
      · rw [List.getElem?_eq_none z] at hc; simp at hc
    have hd : a.drop (i + c) = b :: a.drop (i + c + 1) := by
      rw [List.getElem?_eq_getElem hlt, Option.some.injEq] at hc
      rw [List.drop_eq_getElem_cons hlt, hc]
    rw [ih, hd, List.replicate_succ', List.append_assoc]
    rfl
theorem ru_26 {post : St1 → Prop} {J : Int32 → Int32 → Int32 → Int32 → Int32 → Int32 → Int32 → Int32 → Int32 → Int32 → Int32 → Int32 → Int32 → (Nat → Int32) → (Nat → Int32) → (Nat → Int32) → (Nat → Int32) → (Nat → Int32) → (Nat → Int32) → (Nat → Int32) → (Nat → Int32) → (Nat → Int32) → (Nat → Int32) → (Nat → Int32) → (Nat → Int32) → (Nat → Int32) → (Nat → Int32) → (Nat → Int32) → Prop} {i m : Nat} (hsl : sl = nI m) (hm : m ≤ 700) (H : ∀ c, 1 ≤ c → c ≤ 255 → i + c ≤ m → (∀ t, t < c → a9 (i + t) = a9 i) → wX_bringRuns_66 post J (nI i) (nI c) hN hf ln ll rv sl aw wl ts fr fs iu a1 a2 a3 a4 a5 a6 a7 a8 a9 a10 a11 a12 a13 a14 a15) : ∀ (f c : Nat), c + f = 255 → 1 ≤ c → i + c ≤ m → (∀ t, t < c → a9 (i + t) = a9 i) → wX_bringRuns_26 post J (nI i) hN hf ln ll rv sl aw wl ts fr fs iu a1 a2 a3 a4 a5 a6 a7 a8 a9 a10 a11 a12 a13 a14 a15 (f + 1) (nI c)
  | 0, c, hc, h1, h2, h3 => br_t (nI_le (a := 255) (by omega) (by omega)) (H c h1 (by omega) h2 h3)
  | f + 1, c, hc, h1, h2, h3 => by
    refine br_f (nI_ge (b := 255) (by omega) (by omega)) ?_
    rw [nI_add]
    by_cases z : m ≤ i + c
    · exact br_t (by rw [hsl]; exact nI_le z (by omega)) (H c h1 (by omega) h2 h3)
    · refine br_f (by rw [hsl]; exact nI_ge (by omega) (by omega)) ⟨pk_in (i + c) 700 (by omega), pk_in i 700 (by omega), ?_⟩
      rw [nI_clamp (show i + c < 2 ^ 31 by omega), nI_clamp (show i < 2 ^ 31 by omega)]
      refine br_c (fun e => nm_r (nI_1 c) ?_) (fun _ => H c h1 (by omega) h2 h3)
      refine ru_26 hsl hm H f (c + 1) (by omega) (by omega) (by omega) (fun t ht => ?_)
      by_cases w : t = c
      · rw [w]; exact e
      · exact h3 t (by omega)
theorem ru_16 {post : St1 → Prop} {h m : Nat} {pkd : List Nat} (hh : h ≤ 1) (hm : m ≤ 700) (hp : pkd.length = m) (hb : ∀ b ∈ pkd, b < 256) : ∀ (f i : Nat) (W : wr_T), m - i < f → i ≤ m → W.1 = m → sg_at W.2.2.2.2 0 pkd → wr_room 0 W (2 * (m - i)) → (∀ rs, ru_ok rs → ru_ex rs = pkd.drop i → post (hN, nI h, ln, ll, rv, nI (wr_l 0 h W (ru_by rs)).1, nI (wr_l 0 h W (ru_by rs)).2.1, nI (wr_l 0 h W (ru_by rs)).2.2.1, 0, fr, fs, iu, a1, a2, a3, a4, a5, a6, (wr_l 0 h W (ru_by rs)).2.2.2.1, a8, (wr_l 0 h W (ru_by rs)).2.2.2.2, a10, a11, a12, a13, a14, a15)) → wX_bringRuns_16 post f (nI i) hN (nI h) ln ll rv (nI W.1) (nI W.2.1) (nI W.2.2.1) 0 fr fs iu a1 a2 a3 a4 a5 a6 W.2.2.2.1 a8 W.2.2.2.2 a10 a11 a12 a13 a14 a15
  | 0, i, W, hf, _, _, _, _, _ => absurd hf (by omega)
  | f + 1, i, W, hf, hi, hW, hs, hr, H => by
    by_cases c : m ≤ i
    · refine br_t ?_ (H [] (fun r hr => by simp at hr) ?_)
      · rw [hW]; exact nI_le c (by omega)
      · rw [ru_ex, List.drop_eq_nil_of_le (by omega)]
    · refine br_f ?_ ⟨255, ?_⟩
      · rw [hW]; exact nI_ge (by omega) (by omega)
      refine ru_26 (congrArg nI hW) hm (fun c h1 h2 h3 h4 => ?_) 254 1 (by omega) (by omega) (by omega) (fun t ht => by rw [show t = 0 by omega, Nat.add_zero])
      have get : ∀ t, t < m → ∃ b, pkd[t]? = some b ∧ b < 256 ∧ W.2.2.2.2 t = nI b := by
        intro t ht
        have hlt : t < pkd.length := by omega
        refine ⟨pkd[t], List.getElem?_eq_getElem hlt, hb _ (List.getElem_mem hlt), ?_⟩
        have := sg_get hs (List.getElem?_eq_getElem hlt)
        rw [Nat.zero_add] at this
        exact this
      obtain ⟨b, b1, b2, b3⟩ := get i (by omega)
      have same : ∀ t, t < c → pkd[i + t]? = some b := by
        intro t ht
        obtain ⟨b', c1, c2, c3⟩ := get (i + t) (by omega)
        have e := h4 t ht
        rw [c3, b3] at e
        have := (nI_eq (by omega) (by omega)).mp e
        rw [c1, this]
      have hdrop := ru_rep pkd b i c same
      unfold wX_bringRuns_66
      have w0 := wr_s0 (h := h) (bs := [c]) (W := W)
      rw [wr_one] at w0
      have w1 := wr_s0 (h := h) (bs := [c, b]) (W := W)
      rw [wr_cons, wr_one] at w1
      refine wr_bring (c := c) rfl hh (wr_roomM hr (by omega)) ⟨pk_in i 700 (by omega), wr_bring (c := b) ?_ hh ?_ ?_⟩
      · rw [nI_clamp (by omega), w0.2]; exact b3
      · exact wr_roomM (wr_room1 (wr_roomM hr (show 1 + 1 ≤ _ by omega))) (Nat.le_refl _)
      · refine nm_r (nI_add i c) (ru_16 hh hm hp hb f (i + c) _ (by omega) (by omega) (by rw [w1.1]; exact hW) (by rw [w1.2]; exact hs) ?_ (fun rs hok hex => ?_))
        · exact wr_room1 (wr_room1 (wr_roomM hr (by omega)))
        · have := H ((c, b) :: rs) (fun r hr => ?_) ?_
          · exact this
          · rcases List.mem_cons.mp hr with z | z
            · rw [z]; exact ⟨h1, h2, b2⟩
            · exact hok r z
          · rw [ru_ex, hex, hdrop]
theorem wr_runs {post : St1 → Prop} {h m : Nat} {pkd : List Nat} {W : wr_T} (hh : h ≤ 1) (hm : m ≤ 432) (hp : pkd.length = m) (hb : ∀ b ∈ pkd, b < 256) (hW : W.1 = m) (hs : sg_at W.2.2.2.2 0 pkd) (hr : wr_room 0 W (2 * m + 4)) (H : ∀ rs, ru_ok rs → ru_ex rs = pkd → post (hN, nI h, ln, ll, rv, nI (wr_l 0 h W (en_nat m ++ [58] ++ ru_by rs)).1, nI (wr_l 0 h W (en_nat m ++ [58] ++ ru_by rs)).2.1, nI (wr_l 0 h W (en_nat m ++ [58] ++ ru_by rs)).2.2.1, 0, fr, fs, iu, a1, a2, a3, a4, a5, a6, (wr_l 0 h W (en_nat m ++ [58] ++ ru_by rs)).2.2.2.1, a8, (wr_l 0 h W (en_nat m ++ [58] ++ ru_by rs)).2.2.2.2, a10, a11, a12, a13, a14, a15)) : wpX_bringRuns post (hN, nI h, ln, ll, rv, nI W.1, nI W.2.1, nI W.2.2.1, 0, fr, fs, iu, a1, a2, a3, a4, a5, a6, W.2.2.2.1, a8, W.2.2.2.2, a10, a11, a12, a13, a14, a15) := by
  have e3 : (en_nat m).length ≤ 3 := en_nat_len (k := 2) (by omega)
  have w0 := wr_s0 (h := h) (bs := en_nat m ++ [58]) (W := W)
  rw [wr_app, wr_one] at w0
  unfold wpX_bringRuns
  refine wr_num hh ?_ ?_
  · rw [hW, en_num_nI (by omega)]; exact wr_roomM hr (by omega)
  · rw [hW, en_num_nI (by omega)]
    refine wr_bring (c := 58) rfl hh (wr_roomL (wr_roomM hr (by omega))) ⟨m + 1, ?_⟩
    refine ru_16 (pkd := pkd) hh (by omega) hp hb (m + 1) 0 _ (by omega) (by omega) (by rw [w0.1]; exact hW) (by rw [w0.2]; exact hs) ?_ (fun rs hok hex => ?_)
    · exact wr_room1 (wr_roomL (wr_roomM hr (by omega)))
    · have := H rs hok (by rw [hex]; rfl)
      rw [wr_app, wr_app, wr_one] at this
      exact this
end
section
/-! writing a revision: bringObjects, bringList, writeRevision -/
variable {hN hf ln ll rv sl aw wl ts fr fs iu : Int32} {a1 a2 a3 a4 a5 a6 a7 a8 a9 a10 a11 a12 a13 a14 a15 : Nat → Int32}
theorem ob_nI (x : Int32) : ∃ n : Nat, x = nI n := ⟨x.toBitVec.toNat, Int32.toBitVec_inj.mp (by rw [nI, Int32.ofNat]; simp)⟩
def en_bo (C : Nat → ob_Ob) (sel : Nat → Bool) : Nat → List Nat
  | 0 => []
  | k + 1 => en_bo C sel k ++ (if sel (k + 1) = true ∧ (C (k + 1)).1 ≠ 0 then en_ob (C (k + 1)) else [])
def en_E (C : Nat → ob_Ob) (sel : Nat → Bool) (st : Nat) : Nat → List (Nat × Option Nat)
  | 0 => []
  | k + 1 => en_E C sel st k ++ (if sel (k + 1) = true then [(k + 1, if (C (k + 1)).1 = 0 then none else some (st + (en_bo C sel k).length))] else [])
def en_ent (pk : Bool) (e : Nat × Option Nat) : List Nat := (48 + e.1) :: ((match e.2 with | none => [45] | some p => (if pk = true then 42 else 43) :: en_nat p) ++ [44])
def en_ents (pk : Bool) : List (Nat × Option Nat) → List Nat
  | [] => []
  | e :: l => en_ent pk e ++ en_ents pk l
def en_list (pk : Bool) (E : List (Nat × Option Nat)) (v : Int32) : List Nat := en_ents pk E ++ (80 :: (en_num v ++ [46]))
theorem en_ents_app (pk : Bool) : ∀ xs ys : List (Nat × Option Nat), en_ents pk (xs ++ ys) = en_ents pk xs ++ en_ents pk ys
  | [], ys => rfl
  | x :: xs, ys => by rw [List.cons_append, en_ents, en_ents, en_ents_app pk xs ys, List.append_assoc]
theorem en_it_len (k : Nat) (it : ob_It) (hk : it.2.2 < 100) : (en_it k it).length ≤ 16 ∧ (¬ k = 4 → (en_it k it).length ≤ 13) ∧ (k = 2 → it.1 = 3 → (en_it k it).length ≤ 2) := by
  have h1 : (en_val it).length ≤ 12 ∧ (it.1 = 3 → (en_val it).length ≤ 2) := by
    rw [en_val]
    by_cases c : it.1 = 3
    · rw [if_pos c]
      by_cases d : it.2.1 = 41 ∨ it.2.1 = 92
      · rw [if_pos d]; exact ⟨by simp, fun _ => by simp⟩
      · rw [if_neg d]; exact ⟨by simp, fun _ => by simp⟩
    · rw [if_neg c, List.length_cons]
      have := en_num_11 it.2.1
      exact ⟨by omega, fun z => absurd z c⟩
  have h2 : (en_nat it.2.2).length ≤ 2 := en_nat_len (k := 1) (by omega)
  rw [en_it, List.length_append, List.length_append]
  by_cases c : k = 4
  · rw [if_pos c, if_neg (by omega)]
    simp only [List.length_append, List.length_cons, List.length_nil]
    exact ⟨by omega, fun z => absurd c z, fun z => by omega⟩
  · rw [if_neg c, List.length_nil]
    by_cases d : k = 2
    · rw [if_pos d, List.length_nil]
      exact ⟨by omega, fun _ => by omega, fun _ z => by have := h1.2 z; omega⟩
    · rw [if_neg d, List.length_cons, List.length_nil]
      exact ⟨by omega, fun _ => by omega, fun z => absurd z d⟩
theorem en_its_len (k c : Nat) : ∀ l : List ob_It, (∀ it ∈ l, (en_it k it).length ≤ c) → (en_its k l).length ≤ c * l.length
  | [], _ => by simp [en_its]
  | it :: l, h => by
    have h1 := h it (by simp)
    have h2 := en_its_len k c l (fun x hx => h x (by simp [hx]))
    rw [en_its, List.length_append, List.length_cons, Nat.mul_succ]
    omega
theorem en_ob_len {x : ob_Ob} (h : ob_ok x) : (en_ob x).length ≤ 54 := by
  have hf := ob_okfit h
  obtain ⟨k, l⟩ := x
  rw [en_ob, List.length_cons, List.length_append, List.length_cons, List.length_nil]
  have key : ∀ it ∈ l, it.2.2 < 100 := fun it hi => by have := (hf.2.2 it hi).1; omega
  have n4 : ¬ k = 4 → (en_its k l).length ≤ 13 * l.length := fun c => en_its_len k 13 l (fun it hi => (en_it_len k it (key it hi)).2.1 c)
  dsimp only
  rcases h with ⟨h1, h2⟩ | ⟨h1, v, h2⟩ | ⟨h1, hl, h2⟩ | ⟨h1, hl, h2⟩ | ⟨h1, hl, h2, _⟩ | ⟨h1, v, hv, h2⟩
  · dsimp only at h1 h2
    rw [h2, en_its, List.length_nil]; omega
  · dsimp only at h1 h2
    have := n4 (by omega)
    rw [h2, List.length_cons, List.length_nil] at this
    rw [h2]
    omega
  · dsimp only at h1 h2 hl
    have := en_its_len k 2 l (fun it hi => (en_it_len k it (key it hi)).2.2 h1 (h2 it hi).1)
    omega
  · dsimp only at h1 h2 hl
    have := n4 (by omega)
    omega
  · dsimp only at h1 h2 hl
    have := en_its_len k 16 l (fun it hi => (en_it_len k it (key it hi)).1)
    omega
  · dsimp only at h1 h2
    have := n4 (by omega)
    rw [h2, List.length_cons, List.length_nil] at this
    rw [h2]
    omega
theorem en_bo_len {C : Nat → ob_Ob} {sel : Nat → Bool} (hC : ∀ o, ob_ok (C o)) : ∀ k, (en_bo C sel k).length ≤ 54 * k
  | 0 => by simp [en_bo]
  | k + 1 => by
    have := en_bo_len (sel := sel) hC k
    have h2 := en_ob_len (hC (k + 1))
    rw [en_bo, List.length_append]
    by_cases c : sel (k + 1) = true ∧ (C (k + 1)).1 ≠ 0
    · rw [if_pos c]; omega
    · rw [if_neg c, List.length_nil]; omega
theorem en_ent_len {pk : Bool} {e : Nat × Option Nat} (h : ∀ p, e.2 = some p → p < 10000) : (en_ent pk e).length ≤ 7 := by
  rw [en_ent, List.length_cons, List.length_append, List.length_cons, List.length_nil]
  obtain ⟨o, q⟩ := e
  cases q with
  | none => simp
  | some p =>
    have := en_nat_len (r := p) (k := 3) (by have := h p rfl; omega)
    simp only [List.length_cons]
    omega
/-- where writing stands -/
def wr_pos (ts : Int32) (W : wr_T) : Nat := if ts = 0 then W.2.1 else W.1
theorem wr_pos1 {h c : Nat} {W : wr_T} : wr_pos ts (wr_1 ts h W c) = wr_pos ts W + 1 := by
  unfold wr_pos wr_1
  by_cases t : ts = 0
  · rw [if_pos t, if_pos t, if_pos t]
  · rw [if_neg t, if_neg t, if_neg t]
theorem wr_posL {h : Nat} : ∀ {bs : List Nat} {W : wr_T}, wr_pos ts (wr_l ts h W bs) = wr_pos ts W + bs.length
  | [], W => by rw [wr_nil]; rfl
  | b :: bs, W => by rw [wr_cons, wr_posL, wr_pos1, List.length_cons]; omega
def en_pl (C : Nat → ob_Ob) (sel : Nat → Bool) (st k : Nat) (a10 : Nat → Int32) : Prop := ∀ o, o < k → a10 (o + 1) = if sel (o + 1) = true ∧ (C (o + 1)).1 ≠ 0 then nI (st + (en_bo C sel o).length) else -1
theorem en_pl_s {C : Nat → ob_Ob} {sel : Nat → Bool} {st k : Nat} {w : Int32} (h : en_pl C sel st k a10) (hv : w = if sel (k + 1) = true ∧ (C (k + 1)).1 ≠ 0 then nI (st + (en_bo C sel k).length) else -1) {a10' : Nat → Int32} (h1 : a10' (k + 1) = w) (h2 : ∀ j, j ≠ k + 1 → a10' j = a10 j) : en_pl C sel st (k + 1) a10' := by
  intro o ho
  by_cases c : o = k
  · rw [c, h1, hv]
  · rw [h2 _ (by omega)]
    exact h o (by omega)
theorem wr_place {post : Int32 → Prop} {h : Nat} {W : wr_T} (H : post (nI (wr_pos ts W))) : wpX_placeNow post (hN, nI h, ln, ll, rv, nI W.1, nI W.2.1, nI W.2.2.1, ts, fr, fs, iu, a1, a2, a3, a4, a5, a6, W.2.2.2.1, a8, W.2.2.2.2, a10, a11, a12, a13, a14, a15) := by
  unfold wr_pos at H
  by_cases c : ts = 0
  · rw [if_pos c] at H
    exact br_t c H
  · rw [if_neg c] at H
    exact br_f c H
theorem wr_objs2 {post : St1 → Prop} {h : Nat} {C : Nat → ob_Ob} {sel : Nat → Bool} {all : Int32} {W : wr_T} (hh : h ≤ 1) (hsel : ∀ o, 1 ≤ o → o ≤ 8 → (sel o = true ↔ (¬ all = 0 ∨ ¬ a6 o = 0))) (hC : ob_all C a1 a2 a3 a4 a5) (hok : ∀ o, ob_ok (C o)) (H : ∀ a10' : Nat → Int32, en_pl C sel (wr_pos ts W) 8 a10' → post (hN, nI h, ln, ll, rv, nI (wr_l ts h W (en_bo C sel 8)).1, nI (wr_l ts h W (en_bo C sel 8)).2.1, nI (wr_l ts h W (en_bo C sel 8)).2.2.1, ts, fr, fs, iu, a1, a2, a3, a4, a5, a6, (wr_l ts h W (en_bo C sel 8)).2.2.2.1, a8, (wr_l ts h W (en_bo C sel 8)).2.2.2.2, a10', a11, a12, a13, a14, a15)) : ∀ (rem k : Nat) (a10 : Nat → Int32), k + rem = 8 → wr_room ts (wr_l ts h W (en_bo C sel k)) (54 * rem) → en_pl C sel (wr_pos ts W) k a10 → wX_bringObjects_2 post all (rem + 1) (nI (k + 1)) hN (nI h) ln ll rv (nI (wr_l ts h W (en_bo C sel k)).1) (nI (wr_l ts h W (en_bo C sel k)).2.1) (nI (wr_l ts h W (en_bo C sel k)).2.2.1) ts fr fs iu a1 a2 a3 a4 a5 a6 ((wr_l ts h W (en_bo C sel k)).2.2.2.1) a8 ((wr_l ts h W (en_bo C sel k)).2.2.2.2) a10 a11 a12 a13 a14 a15
  | 0, k, a10, hk, hr, hp => by
    have : k = 8 := by omega
    subst this
    exact br_t (nI_lt (a := 8) (by omega) (by omega)) (H a10 hp)
  | rem + 1, k, a10, hk, hr, hp => by
    have hin : vp_in (nI (k + 1)) 9 := pk_in (k + 1) 9 (by omega)
    have hc : (nI (k + 1)).toNatClampNeg = k + 1 := nI_clamp (by omega)
    have hat := hC (k + 1) (by omega) (by omega)
    have hfit := ob_okfit (hok (k + 1))
    have hf1 := hfit.1
    have hlen := en_ob_len (hok (k + 1))
    have hs := hsel (k + 1) (by omega) (by omega)
    refine br_f (nI_nlt (a := 8) (by omega) (by omega)) ⟨hin, nm_r (e' := upd a10 (k + 1) (-1)) (by rw [hc]) ?_⟩
    have no : ¬ (sel (k + 1) = true ∧ (C (k + 1)).1 ≠ 0) → wX_bringObjects_2 post all (rem + 1) (nI (k + 1 + 1)) hN (nI h) ln ll rv (nI (wr_l ts h W (en_bo C sel k)).1) (nI (wr_l ts h W (en_bo C sel k)).2.1) (nI (wr_l ts h W (en_bo C sel k)).2.2.1) ts fr fs iu a1 a2 a3 a4 a5 a6 ((wr_l ts h W (en_bo C sel k)).2.2.2.1) a8 ((wr_l ts h W (en_bo C sel k)).2.2.2.2) (upd a10 (k + 1) (-1)) a11 a12 a13 a14 a15 := by
      intro c
      have e : en_bo C sel (k + 1) = en_bo C sel k := by rw [en_bo, if_neg c, List.append_nil]
      have t := wr_objs2 hh hsel hC hok H rem (k + 1) (upd a10 (k + 1) (-1)) (by omega) (by rw [e]; exact wr_roomM hr (by omega)) (en_pl_s hp (by rw [if_neg c]) pk_us (fun j hj => pk_un hj))
      rw [e] at t
      exact t
    have yes : sel (k + 1) = true → wX_bringObjects_28 post (wX_bringObjects_2 post all (rem + 1)) all (nI (k + 1)) hN (nI h) ln ll rv (nI (wr_l ts h W (en_bo C sel k)).1) (nI (wr_l ts h W (en_bo C sel k)).2.1) (nI (wr_l ts h W (en_bo C sel k)).2.2.1) ts fr fs iu a1 a2 a3 a4 a5 a6 ((wr_l ts h W (en_bo C sel k)).2.2.2.1) a8 ((wr_l ts h W (en_bo C sel k)).2.2.2.2) (upd a10 (k + 1) (-1)) a11 a12 a13 a14 a15 := by
      intro c
      refine ⟨hin, ?_⟩
      rw [hc, hat.1]
      by_cases c0 : (C (k + 1)).1 = 0
      · refine br_t (by rw [c0]; rfl) (nm_r (nI_1 _) (no (fun z => z.2 c0)))
      · have e : en_bo C sel (k + 1) = en_bo C sel k ++ en_ob (C (k + 1)) := by rw [en_bo, if_pos ⟨c, c0⟩]
        refine br_f (fun z => c0 ((nI_eq (by omega) (by omega)).mp z)) ?_
        refine wr_place (h := h) ⟨hin, nm_r (e' := upd (upd a10 (k + 1) (-1)) (k + 1) (nI (wr_pos ts (wr_l ts h W (en_bo C sel k))))) rfl ?_⟩
        refine wr_obj (x := C (k + 1)) hh (by omega) hfit hat (wr_roomM hr (by omega)) (nm_r (nI_1 _) ?_)
        have t := wr_objs2 hh hsel hC hok H rem (k + 1) (upd (upd a10 (k + 1) (-1)) (k + 1) (nI (wr_pos ts (wr_l ts h W (en_bo C sel k))))) (by omega) (by rw [e, wr_app]; exact wr_roomL (wr_roomM hr (by omega))) (en_pl_s hp (by rw [if_pos ⟨c, c0⟩, ← wr_posL (ts := ts) (h := h)]) pk_us (fun j hj => by rw [pk_un hj, pk_un hj]))
        rw [e, wr_app] at t
        exact t
    by_cases c1 : all = 0
    · refine br_t c1 ⟨hin, ?_⟩
      rw [hc]
      by_cases c2 : a6 (k + 1) = 0
      · exact br_t c2 (nm_r (nI_1 _) (no (fun z => by rcases hs.mp z.1 with w | w; exact w c1; exact w c2)))
      · exact br_f c2 (yes (hs.mpr (Or.inr c2)))
    · exact br_f c1 (yes (hs.mpr (Or.inl c1)))
theorem wr_objs {post : St1 → Prop} {h : Nat} {C : Nat → ob_Ob} {sel : Nat → Bool} {all : Int32} {W : wr_T} (hh : h ≤ 1) (hsel : ∀ o, 1 ≤ o → o ≤ 8 → (sel o = true ↔ (¬ all = 0 ∨ ¬ a6 o = 0))) (hC : ob_all C a1 a2 a3 a4 a5) (hok : ∀ o, ob_ok (C o)) (hr : wr_room ts W 432) (H : ∀ a10' : Nat → Int32, en_pl C sel (wr_pos ts W) 8 a10' → post (hN, nI h, ln, ll, rv, nI (wr_l ts h W (en_bo C sel 8)).1, nI (wr_l ts h W (en_bo C sel 8)).2.1, nI (wr_l ts h W (en_bo C sel 8)).2.2.1, ts, fr, fs, iu, a1, a2, a3, a4, a5, a6, (wr_l ts h W (en_bo C sel 8)).2.2.2.1, a8, (wr_l ts h W (en_bo C sel 8)).2.2.2.2, a10', a11, a12, a13, a14, a15)) : wpX_bringObjects post (hN, nI h, ln, ll, rv, nI W.1, nI W.2.1, nI W.2.2.1, ts, fr, fs, iu, a1, a2, a3, a4, a5, a6, W.2.2.2.1, a8, W.2.2.2.2, a10, a11, a12, a13, a14, a15) all :=
  ⟨9, wr_objs2 hh hsel hC hok H 8 0 a10 rfl hr (fun o ho => absurd ho (by omega))⟩
theorem wr_list3 {post : St1 → Prop} {h st : Nat} {C : Nat → ob_Ob} {sel : Nat → Bool} {pk : Bool} {all packed before : Int32} {W : wr_T} (hh : h ≤ 1) (hsel : ∀ o, 1 ≤ o → o ≤ 8 → (sel o = true ↔ (¬ all = 0 ∨ ¬ a6 o = 0))) (hok : ∀ o, ob_ok (C o)) (hpk : pk = true ↔ ¬ packed = 0) (hst : st ≤ 3700) (hp : en_pl C sel st 8 a10) (H : post (hN, nI h, ln, ll, rv, nI (wr_l ts h W (en_list pk (en_E C sel st 8) before)).1, nI (wr_l ts h W (en_list pk (en_E C sel st 8) before)).2.1, nI (wr_l ts h W (en_list pk (en_E C sel st 8) before)).2.2.1, ts, fr, fs, iu, a1, a2, a3, a4, a5, a6, (wr_l ts h W (en_list pk (en_E C sel st 8) before)).2.2.2.1, a8, (wr_l ts h W (en_list pk (en_E C sel st 8) before)).2.2.2.2, a10, a11, a12, a13, a14, a15)) : ∀ (rem k : Nat), k + rem = 8 → wr_room ts (wr_l ts h W (en_ents pk (en_E C sel st k))) (7 * rem + 13) → wX_bringList_3 post all packed before (rem + 1) (nI (k + 1)) hN (nI h) ln ll rv (nI (wr_l ts h W (en_ents pk (en_E C sel st k))).1) (nI (wr_l ts h W (en_ents pk (en_E C sel st k))).2.1) (nI (wr_l ts h W (en_ents pk (en_E C sel st k))).2.2.1) ts fr fs iu a1 a2 a3 a4 a5 a6 ((wr_l ts h W (en_ents pk (en_E C sel st k))).2.2.2.1) a8 ((wr_l ts h W (en_ents pk (en_E C sel st k))).2.2.2.2) a10 a11 a12 a13 a14 a15
  | 0, k, hk, hr => by
    have : k = 8 := by omega
    subst this
    have h11 := en_num_11 before
    rw [en_list, wr_app, wr_cons, wr_app, wr_one] at H
    refine br_t (nI_lt (a := 8) (by omega) (by omega)) (wr_bring (c := 80) rfl hh (wr_roomM hr (by omega)) ?_)
    exact wr_num hh (wr_roomM (wr_room1 (wr_roomM hr (show 11 + 1 ≤ _ by omega))) h11) (wr_bring (c := 46) rfl hh (wr_roomL (wr_room1 (wr_roomM hr (by omega)))) H)
  | rem + 1, k, hk, hr => by
    have hin : vp_in (nI (k + 1)) 9 := pk_in (k + 1) 9 (by omega)
    have hc : (nI (k + 1)).toNatClampNeg = k + 1 := nI_clamp (by omega)
    have hs := hsel (k + 1) (by omega) (by omega)
    have hpl := hp k (by omega)
    have hbl := en_bo_len (sel := sel) hok k
    refine br_f (nI_nlt (a := 8) (by omega) (by omega)) ?_
    have yes : sel (k + 1) = true → wX_bringList_24 post (wX_bringList_3 post all packed before (rem + 1)) all packed before (nI (k + 1)) hN (nI h) ln ll rv (nI (wr_l ts h W (en_ents pk (en_E C sel st k))).1) (nI (wr_l ts h W (en_ents pk (en_E C sel st k))).2.1) (nI (wr_l ts h W (en_ents pk (en_E C sel st k))).2.2.1) ts fr fs iu a1 a2 a3 a4 a5 a6 ((wr_l ts h W (en_ents pk (en_E C sel st k))).2.2.2.1) a8 ((wr_l ts h W (en_ents pk (en_E C sel st k))).2.2.2.2) a10 a11 a12 a13 a14 a15 := by
      intro c
      have e : en_E C sel st (k + 1) = en_E C sel st k ++ [(k + 1, if (C (k + 1)).1 = 0 then none else some (st + (en_bo C sel k).length))] := by rw [en_E, if_pos c]
      have t : ∀ hr', wX_bringList_3 post all packed before (rem + 1) (nI (k + 1 + 1)) hN (nI h) ln ll rv (nI (wr_l ts h W (en_ents pk (en_E C sel st (k + 1)))).1) (nI (wr_l ts h W (en_ents pk (en_E C sel st (k + 1)))).2.1) (nI (wr_l ts h W (en_ents pk (en_E C sel st (k + 1)))).2.2.1) ts fr fs iu a1 a2 a3 a4 a5 a6 ((wr_l ts h W (en_ents pk (en_E C sel st (k + 1)))).2.2.2.1) a8 ((wr_l ts h W (en_ents pk (en_E C sel st (k + 1)))).2.2.2.2) a10 a11 a12 a13 a14 a15 := fun hr' => wr_list3 hh hsel hok hpk hst hp H rem (k + 1) (by omega) hr'
      rw [e, en_ents_app, en_ents, en_ents, List.append_nil, wr_app] at t
      have fin : ∀ W', wr_room ts W' 1 → wX_bringList_3 post all packed before (rem + 1) (nI (k + 1 + 1)) hN (nI h) ln ll rv (nI (wr_1 ts h W' 44).1) (nI (wr_1 ts h W' 44).2.1) (nI (wr_1 ts h W' 44).2.2.1) ts fr fs iu a1 a2 a3 a4 a5 a6 ((wr_1 ts h W' 44).2.2.2.1) a8 ((wr_1 ts h W' 44).2.2.2.2) a10 a11 a12 a13 a14 a15 → wX_bringList_78 post (wX_bringList_3 post all packed before (rem + 1)) all packed before (nI (k + 1)) hN (nI h) ln ll rv (nI W'.1) (nI W'.2.1) (nI W'.2.2.1) ts fr fs iu a1 a2 a3 a4 a5 a6 W'.2.2.2.1 a8 W'.2.2.2.2 a10 a11 a12 a13 a14 a15 := by
        intro W' hr1 hw
        unfold wX_bringList_78
        exact wr_bring (c := 44) rfl hh hr1 (nm_r (nI_1 _) hw)
      unfold wX_bringList_24
      refine wr_bring (c := 48 + (k + 1)) (ob_48 _) hh (wr_roomM hr (by omega)) ⟨hin, ?_⟩
      rw [hc, hpl]
      by_cases c0 : (C (k + 1)).1 = 0
      · rw [if_pos c0, en_ent, wr_cons] at t
        rw [if_neg (fun z => z.2 c0)]
        refine br_f (by decide) (wr_bring (c := 45) rfl hh (wr_room1 (wr_roomM hr (by omega))) ?_)
        exact fin _ (wr_room1 (wr_room1 (wr_roomM hr (by omega)))) (t (wr_room1 (wr_room1 (wr_room1 (wr_roomM hr (by omega))))))
      · rw [if_neg c0, en_ent, wr_cons] at t
        dsimp only at t
        rw [List.cons_append, wr_cons, wr_app, wr_one] at t
        rw [if_pos ⟨c, c0⟩]
        have hn : (en_nat (st + (en_bo C sel k).length)).length ≤ 4 := en_nat_len (k := 3) (by omega)
        refine br_t (nI_pos' (by omega)) ?_
        have go : ∀ m : Nat, (if pk = true then 42 else 43) = m → wX_bringList_64 post (wX_bringList_3 post all packed before (rem + 1)) all packed before (nI (k + 1)) (nI m) hN (nI h) ln ll rv (nI (wr_1 ts h (wr_l ts h W (en_ents pk (en_E C sel st k))) (48 + (k + 1))).1) (nI (wr_1 ts h (wr_l ts h W (en_ents pk (en_E C sel st k))) (48 + (k + 1))).2.1) (nI (wr_1 ts h (wr_l ts h W (en_ents pk (en_E C sel st k))) (48 + (k + 1))).2.2.1) ts fr fs iu a1 a2 a3 a4 a5 a6 ((wr_1 ts h (wr_l ts h W (en_ents pk (en_E C sel st k))) (48 + (k + 1))).2.2.2.1) a8 ((wr_1 ts h (wr_l ts h W (en_ents pk (en_E C sel st k))) (48 + (k + 1))).2.2.2.2) a10 a11 a12 a13 a14 a15 := by
          intro m hm
          rw [hm] at t
          unfold wX_bringList_64
          refine wr_bring (c := m) rfl hh (wr_room1 (wr_roomM hr (by omega))) ⟨hin, ?_⟩
          rw [hc, hpl, if_pos ⟨c, c0⟩]
          have e2 : en_num (nI (st + (en_bo C sel k).length)) = en_nat (st + (en_bo C sel k).length) := en_num_nI (by omega)
          refine wr_num hh ?_ ?_
          · rw [e2]
            exact wr_roomM (wr_room1 (wr_room1 (wr_roomM hr (show 4 + 1 + 1 ≤ _ by omega)))) hn
          · rw [e2]
            exact fin _ (wr_roomL (wr_room1 (wr_room1 (wr_roomM hr (by omega))))) (t (wr_room1 (wr_roomL (wr_room1 (wr_room1 (wr_roomM hr (by omega)))))))
        by_cases cp : packed = 0
        · exact br_t cp (go 43 (if_neg (fun z => hpk.mp z cp)))
        · exact br_f cp (go 42 (if_pos (hpk.mpr cp)))
    by_cases c1 : all = 0
    · refine br_t c1 ⟨hin, ?_⟩
      rw [hc]
      by_cases c2 : a6 (k + 1) = 0
      · have e : en_E C sel st (k + 1) = en_E C sel st k := by
          rw [en_E, if_neg (fun z => by rcases hs.mp z with w | w; exact w c1; exact w c2), List.append_nil]
        have t := wr_list3 (all := all) (packed := packed) hh hsel hok hpk hst hp H rem (k + 1) (by omega) (by rw [e]; exact wr_roomM hr (by omega))
        rw [e] at t
        exact br_t c2 (nm_r (nI_1 _) t)
      · exact br_f c2 (yes (hs.mpr (Or.inr c2)))
    · exact br_f c1 (yes (hs.mpr (Or.inl c1)))
theorem wr_list {post : St1 → Prop} {h st : Nat} {C : Nat → ob_Ob} {sel : Nat → Bool} {pk : Bool} {all packed before : Int32} {W : wr_T} (hh : h ≤ 1) (hsel : ∀ o, 1 ≤ o → o ≤ 8 → (sel o = true ↔ (¬ all = 0 ∨ ¬ a6 o = 0))) (hok : ∀ o, ob_ok (C o)) (hpk : pk = true ↔ ¬ packed = 0) (hst : st ≤ 3700) (hp : en_pl C sel st 8 a10) (hr : wr_room ts W 69) (H : post (hN, nI h, ln, ll, rv, nI (wr_l ts h W (en_list pk (en_E C sel st 8) before)).1, nI (wr_l ts h W (en_list pk (en_E C sel st 8) before)).2.1, nI (wr_l ts h W (en_list pk (en_E C sel st 8) before)).2.2.1, ts, fr, fs, iu, a1, a2, a3, a4, a5, a6, (wr_l ts h W (en_list pk (en_E C sel st 8) before)).2.2.2.1, a8, (wr_l ts h W (en_list pk (en_E C sel st 8) before)).2.2.2.2, a10, a11, a12, a13, a14, a15)) : wpX_bringList post (hN, nI h, ln, ll, rv, nI W.1, nI W.2.1, nI W.2.2.1, ts, fr, fs, iu, a1, a2, a3, a4, a5, a6, W.2.2.2.1, a8, W.2.2.2.2, a10, a11, a12, a13, a14, a15) all packed before :=
  ⟨9, wr_list3 hh hsel hok hpk hst hp H 8 0 rfl hr⟩
end
section
/-! what writing does to the file; writeRevision -/
variable {hN hf ln ll rv sl aw wl ts fr fs iu : Int32} {a1 a2 a3 a4 a5 a6 a7 a8 a9 a10 a11 a12 a13 a14 a15 : Nat → Int32}
def wr_f (h : Nat) : Nat → Nat → (Nat → Int32) → List Nat → (Nat → Int32)
  | _, _, f, [] => f
  | p, w, f, b :: bs => wr_f h (p + 1) (w - 1) (if w = 0 then f else upd f (3700 * h + p) (nI b).toInt8.toInt32) bs
theorem wr_0 (h : Nat) : ∀ (bs : List Nat) (W : wr_T), wr_l 0 h W bs = (W.1, W.2.1 + bs.length, W.2.2.1 - bs.length, wr_f h W.2.1 W.2.2.1 W.2.2.2.1 bs, W.2.2.2.2)
  | [], W => rfl
  | b :: bs, W => by
    have e : wr_1 0 h W b = (W.1, W.2.1 + 1, W.2.2.1 - 1, (if W.2.2.1 = 0 then W.2.2.2.1 else upd W.2.2.2.1 (3700 * h + W.2.1) (nI b).toInt8.toInt32), W.2.2.2.2) := by
      unfold wr_1
      rw [if_pos rfl]
    rw [wr_cons, wr_0 h bs, e, List.length_cons]
    dsimp only
    rw [wr_f, show W.2.1 + 1 + bs.length = W.2.1 + (bs.length + 1) by omega, show W.2.2.1 - 1 - bs.length = W.2.2.1 - (bs.length + 1) by omega]
def wr_g : Nat → (Nat → Int32) → List Nat → (Nat → Int32)
  | _, s, [] => s
  | q, s, b :: bs => wr_g (q + 1) (upd s q (nI b)) bs
theorem wr_n0 (h : Nat) (ht : ¬ ts = 0) : ∀ (bs : List Nat) (W : wr_T), wr_l ts h W bs = (W.1 + bs.length, W.2.1, W.2.2.1, W.2.2.2.1, wr_g W.1 W.2.2.2.2 bs)
  | [], W => rfl
  | b :: bs, W => by
    have e : wr_1 ts h W b = (W.1 + 1, W.2.1, W.2.2.1, W.2.2.2.1, upd W.2.2.2.2 W.1 (nI b)) := by
      unfold wr_1
      rw [if_neg ht]
    rw [wr_cons, wr_n0 h ht bs, e, List.length_cons]
    dsimp only
    rw [wr_g, show W.1 + 1 + bs.length = W.1 + (bs.length + 1) by omega]
theorem wr_g_lo : ∀ (bs : List Nat) (q : Nat) (s : Nat → Int32) (j : Nat), j < q → wr_g q s bs j = s j
  | [], _, _, _, _ => rfl
  | b :: bs, q, s, j, hj => by
    rw [wr_g, wr_g_lo bs (q + 1) _ j (by omega), pk_un (by omega)]
theorem wr_g_at : ∀ (bs : List Nat) (q : Nat) (s : Nat → Int32), sg_at (wr_g q s bs) q bs
  | [], _, _ => trivial
  | b :: bs, q, s => by
    refine ⟨?_, wr_g_at bs (q + 1) _⟩
    rw [wr_g, wr_g_lo bs (q + 1) _ q (by omega), pk_us]
theorem wr_f_out (h : Nat) : ∀ (bs : List Nat) (p w : Nat) (f : Nat → Int32) (j : Nat), j < 3700 * h + p ∨ 3700 * h + p + bs.length ≤ j → wr_f h p w f bs j = f j
  | [], _, _, _, _, _ => rfl
  | b :: bs, p, w, f, j, hj => by
    rw [List.length_cons] at hj
    rw [wr_f, wr_f_out h bs (p + 1) (w - 1) _ j (by omega)]
    by_cases c : w = 0
    · rw [if_pos c]
    · rw [if_neg c, pk_un (by omega)]
theorem wr_f_at (h : Nat) : ∀ (bs : List Nat) (p w : Nat) (f : Nat → Int32), bs.length ≤ w → (∀ b ∈ bs, b < 256) → sg_at (fi_g h (wr_f h p w f bs)) p bs
  | [], _, _, _, _, _ => trivial
  | b :: bs, p, w, f, hw, hb => by
    rw [List.length_cons] at hw
    refine ⟨?_, ?_⟩
    · unfold fi_g
      rw [wr_f, wr_f_out h bs _ _ _ _ (by omega), if_neg (by omega), pk_us]
      exact sc_k8 b (hb b (by simp))
    · rw [wr_f]
      exact wr_f_at h bs (p + 1) (w - 1) _ (by omega) (fun x hx => hb x (by simp [hx]))
theorem wr_f_lo {h p w j : Nat} {f : Nat → Int32} {bs : List Nat} (hj : j < p) : fi_g h (wr_f h p w f bs) j = fi_g h f j := by
  unfold fi_g
  rw [wr_f_out h bs p w f _ (by omega)]
theorem wr_f_half {h h' p w j : Nat} {f : Nat → Int32} {bs : List Nat} (hh : h ≤ 1) (hp : p + bs.length ≤ 3700) (hj : j < 3700) (hx : h' = 1 - h) : fi_g h (wr_f h' p w f bs) j = fi_g h f j := by
  unfold fi_g
  rw [wr_f_out h' bs p w f _ (by omega)]
theorem en_its_lt {x : ob_Ob} (k : Nat) (hf : ob_fit x) (hk : k = x.1) : ∀ l : List ob_It, (∀ it ∈ l, it ∈ x.2) → ∀ b ∈ en_its k l, b < 256
  | [], _, b, hb => by simp [en_its] at hb
  | it :: l, hl, b, hb => by
    rw [en_its, List.mem_append] at hb
    rcases hb with hb | hb
    · have hm := hf.2.2 it (hl it (by simp))
      rw [en_it, List.mem_append, List.mem_append] at hb
      rcases hb with hb | hb | hb
      · by_cases c : k = 4
        · rw [if_pos c, List.mem_append] at hb
          rcases hb with hb | hb
          · have := en_nat_mem hb; omega
          · simp at hb; omega
        · rw [if_neg c] at hb; simp at hb
      · rw [en_val] at hb
        by_cases c : it.1 = 3
        · rw [if_pos c] at hb
          have hv : ∃ d : Nat, d < 256 ∧ it.2.1 = nI d := by
            by_cases c2 : x.1 = 2
            · exact (hm.2.2.1 c2).2
            · have := hm.2.2.2 c2; omega
          obtain ⟨d, hd, hv⟩ := hv
          rw [hv, nI_clamp (by omega)] at hb
          by_cases c2 : nI d = 41 ∨ nI d = 92
          · rw [if_pos c2] at hb; simp at hb; omega
          · rw [if_neg c2] at hb; simp at hb; omega
        · rw [if_neg c, List.mem_cons] at hb
          rcases hb with hb | hb
          · have : it.1 ≤ 2 := by
              by_cases c2 : x.1 = 2
              · exact absurd (hm.2.2.1 c2).1 c
              · exact hm.2.2.2 c2
            have := (rd_mark this).1
            omega
          · have := en_num_mem hb; omega
      · by_cases c : k = 2
        · rw [if_pos c] at hb; simp at hb
        · rw [if_neg c] at hb; simp at hb; omega
    · exact en_its_lt k hf hk l (fun it hi => hl it (by simp [hi])) b hb
theorem en_ob_lt {x : ob_Ob} (hf : ob_fit x) : ∀ b ∈ en_ob x, b < 256 := by
  intro b hb
  have := hf.1
  rw [en_ob, List.mem_cons, List.mem_append] at hb
  rcases hb with hb | hb | hb
  · omega
  · exact en_its_lt x.1 hf rfl x.2 (fun it hi => hi) b hb
  · simp at hb; omega
theorem en_bo_lt {C : Nat → ob_Ob} {sel : Nat → Bool} (hC : ∀ o, ob_ok (C o)) : ∀ k, ∀ b ∈ en_bo C sel k, b < 256
  | 0, b, hb => by simp [en_bo] at hb
  | k + 1, b, hb => by
    rw [en_bo, List.mem_append] at hb
    rcases hb with hb | hb
    · exact en_bo_lt hC k b hb
    · by_cases c : sel (k + 1) = true ∧ (C (k + 1)).1 ≠ 0
      · rw [if_pos c] at hb
        exact en_ob_lt (ob_okfit (hC (k + 1))) b hb
      · rw [if_neg c] at hb; simp at hb
theorem en_E_mem {C : Nat → ob_Ob} {sel : Nat → Bool} {st : Nat} : ∀ k e, e ∈ en_E C sel st k → ∃ j, j < k ∧ e.1 = j + 1 ∧ sel (j + 1) = true ∧ e.2 = (if (C (j + 1)).1 = 0 then none else some (st + (en_bo C sel j).length))
  | 0, e, he => by simp [en_E] at he
  | k + 1, e, he => by
    rw [en_E, List.mem_append] at he
    rcases he with he | he
    · obtain ⟨j, h1, h2⟩ := en_E_mem k e he
      exact ⟨j, by omega, h2⟩
    · by_cases c : sel (k + 1) = true
      · rw [if_pos c] at he
        simp only [List.mem_cons, List.not_mem_nil, or_false] at he
        rw [he]
        exact ⟨k, by omega, rfl, c, rfl⟩
      · rw [if_neg c] at he; simp at he
theorem en_E_len {C : Nat → ob_Ob} {sel : Nat → Bool} {st : Nat} : ∀ k, (en_E C sel st k).length ≤ k
  | 0 => by simp [en_E]
  | k + 1 => by
    have := en_E_len (C := C) (sel := sel) (st := st) k
    rw [en_E, List.length_append]
    by_cases c : sel (k + 1) = true
    · rw [if_pos c, List.length_cons, List.length_nil]; omega
    · rw [if_neg c, List.length_nil]; omega
theorem en_E_has {C : Nat → ob_Ob} {sel : Nat → Bool} {st : Nat} : ∀ k o, 1 ≤ o → o ≤ k → sel o = true → ∃ e ∈ en_E C sel st k, e.1 = o
  | 0, o, h1, h2, _ => by omega
  | k + 1, o, h1, h2, h3 => by
    by_cases c : o = k + 1
    · refine ⟨(k + 1, if (C (k + 1)).1 = 0 then none else some (st + (en_bo C sel k).length)), ?_, c.symm⟩
      rw [c] at h3
      rw [en_E, if_pos h3]
      simp
    · obtain ⟨e, h4, h5⟩ := en_E_has (C := C) (st := st) k o h1 (by omega) h3
      exact ⟨e, by rw [en_E]; simp [h4], h5⟩
theorem en_ents_lt {pk : Bool} : ∀ E : List (Nat × Option Nat), (∀ e ∈ E, e.1 ≤ 8) → ∀ b ∈ en_ents pk E, b < 256
  | [], _, b, hb => by simp [en_ents] at hb
  | e :: E, hE, b, hb => by
    have h8 := hE e (by simp)
    rw [en_ents, List.mem_append] at hb
    rcases hb with hb | hb
    · rw [en_ent, List.mem_cons, List.mem_append] at hb
      rcases hb with hb | hb | hb
      · omega
      · obtain ⟨o, q⟩ := e
        cases q with
        | none => simp at hb; omega
        | some p =>
          dsimp only at hb
          rw [List.mem_cons] at hb
          rcases hb with hb | hb
          · cases pk <;> simp at hb <;> omega
          · have := en_nat_mem hb; omega
      · simp at hb; omega
    · exact en_ents_lt E (fun x hx => hE x (by simp [hx])) b hb
theorem en_list_lt {pk : Bool} {E : List (Nat × Option Nat)} {v : Int32} (hE : ∀ e ∈ E, e.1 ≤ 8) : ∀ b ∈ en_list pk E v, b < 256 := by
  intro b hb
  rw [en_list, List.mem_append, List.mem_cons, List.mem_append] at hb
  rcases hb with hb | hb | hb | hb
  · exact en_ents_lt E hE b hb
  · omega
  · have := en_num_mem hb; omega
  · simp at hb; omega
theorem en_ents_len {pk : Bool} : ∀ E : List (Nat × Option Nat), (∀ e ∈ E, ∀ p, e.2 = some p → p < 10000) → (en_ents pk E).length ≤ 7 * E.length
  | [], _ => by simp [en_ents]
  | e :: E, h => by
    have h1 := en_ent_len (pk := pk) (h e (by simp))
    have h2 := en_ents_len (pk := pk) E (fun x hx => h x (by simp [hx]))
    rw [en_ents, List.length_append, List.length_cons]
    omega
theorem en_E_lt {C : Nat → ob_Ob} {sel : Nat → Bool} {st : Nat} (hC : ∀ o, ob_ok (C o)) (hst : st ≤ 3700) : ∀ e ∈ en_E C sel st 8, ∀ p, e.2 = some p → p < 10000 := by
  intro e he p hp
  obtain ⟨j, h1, h2, h3, h4⟩ := en_E_mem 8 e he
  have := en_bo_len (sel := sel) hC j
  rw [h4] at hp
  by_cases c : (C (j + 1)).1 = 0
  · rw [if_pos c] at hp; simp at hp
  · rw [if_neg c, Option.some.injEq] at hp
    omega
theorem en_list_len {C : Nat → ob_Ob} {sel : Nat → Bool} {st : Nat} {pk : Bool} {v : Int32} (hC : ∀ o, ob_ok (C o)) (hst : st ≤ 3700) : (en_list pk (en_E C sel st 8) v).length ≤ 69 := by
  have h1 := en_ents_len (pk := pk) (en_E C sel st 8) (en_E_lt hC hst)
  have h2 := en_E_len (C := C) (sel := sel) (st := st) 8
  have h3 := en_num_11 v
  rw [en_list, List.length_append, List.length_cons, List.length_append, List.length_cons, List.length_nil]
  omega
/-- what a revision's bytes are: the objects' part, the list -/
def en_rev (bs : List Nat) (pk : Bool) (E : List (Nat × Option Nat)) (v : Int32) : List Nat := bs ++ en_list pk E v
theorem wr_rev0 {post : Int32 → St1 → Prop} {h l w : Nat} {C : Nat → ob_Ob} {sel : Nat → Bool} (hh : h ≤ 1) (hl : l + 501 ≤ 3700) (hw : w ≤ 3700) (hsel : ∀ o, 1 ≤ o → o ≤ 8 → (sel o = true ↔ ¬ a6 o = 0)) (hC : ob_all C a1 a2 a3 a4 a5) (hok : ∀ o, ob_ok (C o)) (H : ∀ (sl' wl' : Int32) (a10' : Nat → Int32), post (nI (l + (en_bo C sel 8).length)) (hN, nI h, nI l, ll, rv, sl', nI (l + (en_rev (en_bo C sel 8) false (en_E C sel l 8) ll).length), wl', 0, fr, fs, 0, a1, a2, a3, a4, a5, a6, wr_f h l w a7 (en_rev (en_bo C sel 8) false (en_E C sel l 8) ll), a8, a9, a10', a11, a12, a13, a14, a15)) : wpX_writeRevision post (hN, nI h, nI l, ll, rv, sl, aw, wl, ts, fr, fs, iu, a1, a2, a3, a4, a5, a6, a7, a8, a9, a10, a11, a12, a13, a14, a15) 0 (nI w) := by
  obtain ⟨q, hq⟩ := ob_nI sl
  have hs1 : ∀ o, 1 ≤ o → o ≤ 8 → (sel o = true ↔ (¬ (0 : Int32) = 0 ∨ ¬ a6 o = 0)) := fun o h1 h2 => (hsel o h1 h2).trans ⟨Or.inr, fun z => z.elim (fun w => absurd rfl w) id⟩
  have hr : wr_room 0 ((q, l, w, a7, a9) : wr_T) 501 := ⟨fun _ => ⟨hl, hw⟩, fun z => absurd rfl z⟩
  have hb := en_bo_len (sel := sel) hok 8
  rw [hq]
  unfold wpX_writeRevision
  refine br_t rfl (br_t rfl (br_f (by decide) ?_))
  refine wr_objs (W := (q, l, w, a7, a9)) (sel := sel) (C := C) hh hs1 hC hok (wr_roomM hr (by omega)) (fun a10' hp => ?_)
  have e0 := wr_0 h (en_bo C sel 8) (q, l, w, a7, a9)
  have hpos : wr_pos 0 ((q, l, w, a7, a9) : wr_T) = l := rfl
  rw [hpos] at hp
  refine br_f (by decide) (br_t rfl ?_)
  unfold wX_writeRevision_122
  refine wr_list (W := wr_l 0 h (q, l, w, a7, a9) (en_bo C sel 8)) (st := l) (sel := sel) (C := C) (pk := false) hh hs1 hok (by simp) (by omega) hp (wr_roomL (wr_roomM hr (by omega))) ?_
  have e1 := wr_0 h (en_rev (en_bo C sel 8) false (en_E C sel l 8) ll) (q, l, w, a7, a9)
  rw [en_rev, wr_app] at e1
  have H := H (nI q) (nI (w - (en_rev (en_bo C sel 8) false (en_E C sel l 8) ll).length)) a10'
  rw [e1]
  rw [e0]
  exact H
theorem wr_rev1 {post : Int32 → St1 → Prop} {h w : Nat} {C : Nat → ob_Ob} (hh : h ≤ 1) (hw : w ≤ 3700) (hC : ob_all C a1 a2 a3 a4 a5) (hok : ∀ o, ob_ok (C o)) (H : ∀ (sl' wl' : Int32) (a10' : Nat → Int32), post (nI (en_bo C (fun _ => true) 8).length) (hN, nI (1 - h), ln, ll, rv, sl', nI (en_rev (en_bo C (fun _ => true) 8) false (en_E C (fun _ => true) 0 8) (-1)).length, wl', 0, fr, fs, 0, a1, a2, a3, a4, a5, a6, wr_f (1 - h) 0 w a7 (en_rev (en_bo C (fun _ => true) 8) false (en_E C (fun _ => true) 0 8) (-1)), a8, a9, a10', a11, a12, a13, a14, a15)) : wpX_writeRevision post (hN, nI h, ln, ll, rv, sl, aw, wl, ts, fr, fs, iu, a1, a2, a3, a4, a5, a6, a7, a8, a9, a10, a11, a12, a13, a14, a15) 1 (nI w) := by
  obtain ⟨q, hq⟩ := ob_nI sl
  have hs1 : ∀ o, 1 ≤ o → o ≤ 8 → ((fun _ => true : Nat → Bool) o = true ↔ (¬ (1 : Int32) = 0 ∨ ¬ a6 o = 0)) := fun o h1 h2 => ⟨fun _ => Or.inl (by decide), fun _ => rfl⟩
  have hr : wr_room 0 ((q, 0, w, a7, a9) : wr_T) 501 := ⟨fun _ => ⟨by show 0 + 501 ≤ 3700; omega, hw⟩, fun z => absurd rfl z⟩
  have hb := en_bo_len (sel := fun _ => true) hok 8
  rw [hq]
  unfold wpX_writeRevision
  refine br_f (by decide) (br_f (by decide) (nm_r (e' := nI (1 - h)) (pk_sub (a := 1) hh) (br_f (by decide) ?_)))
  refine wr_objs (h := 1 - h) (W := (q, 0, w, a7, a9)) (sel := fun _ => true) (C := C) (by omega) hs1 hC hok (wr_roomM hr (by omega)) (fun a10' hp => ?_)
  have e0 := wr_0 (1 - h) (en_bo C (fun _ => true) 8) (q, 0, w, a7, a9)
  have hpos : wr_pos 0 ((q, 0, w, a7, a9) : wr_T) = 0 := rfl
  rw [hpos] at hp
  refine br_f (by decide) (br_f (by decide) ?_)
  unfold wX_writeRevision_122
  refine wr_list (h := 1 - h) (W := wr_l 0 (1 - h) (q, 0, w, a7, a9) (en_bo C (fun _ => true) 8)) (st := 0) (sel := fun _ => true) (C := C) (pk := false) (by omega) hs1 hok (by simp) (by omega) hp (wr_roomL (wr_roomM hr (by omega))) ?_
  have e1 := wr_0 (1 - h) (en_rev (en_bo C (fun _ => true) 8) false (en_E C (fun _ => true) 0 8) (-1)) (q, 0, w, a7, a9)
  rw [en_rev, wr_app] at e1
  have H := H (nI q) (nI (w - (en_rev (en_bo C (fun _ => true) 8) false (en_E C (fun _ => true) 0 8) (-1)).length)) a10'
  rw [e1]
  rw [e0]
  dsimp only
  rw [Nat.zero_add, Nat.zero_add]
  exact H
theorem wr_rev2 {post : Int32 → St1 → Prop} {h w : Nat} {C : Nat → ob_Ob} (hh : h ≤ 1) (hw : w ≤ 3700) (hC : ob_all C a1 a2 a3 a4 a5) (hok : ∀ o, ob_ok (C o)) (H : ∀ (rs : List (Nat × Nat)) (sl' wl' : Int32) (a9' a10' : Nat → Int32), ru_ok rs → ru_ex rs = en_bo C (fun _ => true) 8 → post (nI (en_nat (ru_ex rs).length ++ [58] ++ ru_by rs).length) (hN, nI (1 - h), ln, ll, rv, sl', nI (en_rev (en_nat (ru_ex rs).length ++ [58] ++ ru_by rs) true (en_E C (fun _ => true) 0 8) (-1)).length, wl', 0, fr, fs, 0, a1, a2, a3, a4, a5, a6, wr_f (1 - h) 0 w a7 (en_rev (en_nat (ru_ex rs).length ++ [58] ++ ru_by rs) true (en_E C (fun _ => true) 0 8) (-1)), a8, a9', a10', a11, a12, a13, a14, a15)) : wpX_writeRevision post (hN, nI h, ln, ll, rv, sl, aw, wl, ts, fr, fs, iu, a1, a2, a3, a4, a5, a6, a7, a8, a9, a10, a11, a12, a13, a14, a15) 2 (nI w) := by
  have hs1 : ∀ o, 1 ≤ o → o ≤ 8 → ((fun _ => true : Nat → Bool) o = true ↔ (¬ (1 : Int32) = 0 ∨ ¬ a6 o = 0)) := fun o h1 h2 => ⟨fun _ => Or.inl (by decide), fun _ => rfl⟩
  have hr : wr_room 1 ((0, 0, w, a7, a9) : wr_T) 432 := ⟨fun z => absurd z (by decide), fun _ => by show 0 + 432 ≤ 700; omega⟩
  have hb := en_bo_len (sel := fun _ => true) hok 8
  unfold wpX_writeRevision
  refine br_f (by decide) (br_f (by decide) (nm_r (e' := nI (1 - h)) (pk_sub (a := 1) hh) (br_t rfl ?_)))
  refine wr_objs (h := 1 - h) (W := (0, 0, w, a7, a9)) (sel := fun _ => true) (C := C) (by omega) hs1 hC hok hr (fun a10' hp => ?_)
  have hpos : wr_pos 1 ((0, 0, w, a7, a9) : wr_T) = 0 := rfl
  rw [hpos] at hp
  have e0 := wr_n0 (ts := 1) (1 - h) (by decide) (en_bo C (fun _ => true) 8) (0, 0, w, a7, a9)
  rw [e0]
  dsimp only
  rw [Nat.zero_add]
  have hr2 : wr_room 0 (((en_bo C (fun _ => true) 8).length, 0, w, a7, wr_g 0 a9 (en_bo C (fun _ => true) 8)) : wr_T) 3700 := ⟨fun _ => ⟨by show 0 + 3700 ≤ 3700; omega, hw⟩, fun z => absurd rfl z⟩
  refine wr_runs (h := 1 - h) (m := (en_bo C (fun _ => true) 8).length) (pkd := en_bo C (fun _ => true) 8) (W := ((en_bo C (fun _ => true) 8).length, 0, w, a7, wr_g 0 a9 (en_bo C (fun _ => true) 8))) (by omega) (by omega) rfl (en_bo_lt hok 8) rfl (wr_g_at _ 0 a9) (wr_roomM hr2 (by omega)) (fun rs hrs hex => ?_)
  have hx := ru_ex_len rs hrs
  have hy := ru_by_len rs
  rw [← hex] at hr2 hb ⊢
  have e3 : (en_nat (ru_ex rs).length).length ≤ 3 := en_nat_len (k := 2) (by omega)
  have hlen : (en_nat (ru_ex rs).length ++ [58] ++ ru_by rs).length ≤ 868 := by
    rw [List.length_append, List.length_append, List.length_cons, List.length_nil]; omega
  refine br_t rfl (br_f (by decide) ?_)
  unfold wX_writeRevision_122
  have e4 := wr_0 (1 - h) (en_nat (ru_ex rs).length ++ [58] ++ ru_by rs) ((ru_ex rs).length, 0, w, a7, wr_g 0 a9 (ru_ex rs))
  refine wr_list (h := 1 - h) (W := wr_l 0 (1 - h) ((ru_ex rs).length, 0, w, a7, wr_g 0 a9 (ru_ex rs)) (en_nat (ru_ex rs).length ++ [58] ++ ru_by rs)) (st := 0) (sel := fun _ => true) (C := C) (pk := true) (by omega) hs1 hok (by simp) (by omega) hp (wr_roomL (wr_roomM hr2 (by omega))) ?_
  have e1 := wr_0 (1 - h) (en_rev (en_nat (ru_ex rs).length ++ [58] ++ ru_by rs) true (en_E C (fun _ => true) 0 8) (-1)) ((ru_ex rs).length, 0, w, a7, wr_g 0 a9 (ru_ex rs))
  rw [en_rev, wr_app] at e1
  have H := H rs (nI (ru_ex rs).length) (nI (w - (en_rev (en_nat (ru_ex rs).length ++ [58] ++ ru_by rs) true (en_E C (fun _ => true) 0 8) (-1)).length)) (wr_g 0 a9 (ru_ex rs)) a10' hrs hex
  rw [e1]
  rw [e4]
  dsimp only
  rw [Nat.zero_add, Nat.zero_add]
  exact H
end
section
/-! the file's revisions; listBefore, listOf -/
variable {hN hf ln ll rv sl aw wl ts fr fs iu : Int32} {a1 a2 a3 a4 a5 a6 a7 a8 a9 a10 a11 a12 a13 a14 a15 : Nat → Int32}
/-- a revision's list stands at Lp: X are its objects, P those before it -/
def fi_rev (g : Nat → Int32) (ln : Nat) (sc : List Nat) (pk : Bool) (Lp : Nat) (bef : Int32) (X P : Nat → ob_Ob) : Prop :=
  ∃ E : List (Nat × Option Nat), E.length ≤ 8 ∧ sg_at g Lp (en_list pk E bef) ∧ Lp + (en_list pk E bef).length ≤ ln ∧
    (∀ e ∈ E, 1 ≤ e.1 ∧ e.1 ≤ 8 ∧ (e.2 = none → X e.1 = ob_no) ∧ ∀ p, e.2 = some p → p < 10000 ∧ (pk = true → ∃ xs ys, sc = xs ++ (en_ob (X e.1) ++ ys) ∧ xs.length = p) ∧ (pk = false → sg_at g p (en_ob (X e.1)) ∧ p + (en_ob (X e.1)).length ≤ ln)) ∧
    (∀ o, 1 ≤ o → o ≤ 8 → (∀ e ∈ E, e.1 ≠ o) → X o = P o)
def fi_bef (L : Nat → Nat) : Nat → Int32
  | 0 => -1
  | j + 1 => nI (L j)
def fi_prev (R : Nat → Nat → ob_Ob) : Nat → (Nat → ob_Ob)
  | 0 => fun _ => ob_no
  | j + 1 => R j
def fi_pk (pk : Bool) : Nat → Bool
  | 0 => pk
  | _ + 1 => false
/-- the half's text: n revisions, R their objects, L where their lists are, rs the runs of a packed first one -/
def fi_ok (g : Nat → Int32) (ln : Nat) (rs : List (Nat × Nat)) (pk : Bool) (n : Nat) (R : Nat → Nat → ob_Ob) (L : Nat → Nat) : Prop :=
  n ≤ 5 ∧ ln ≤ 436 + 501 * n ∧ (∀ j o, ob_ok (R j o)) ∧ (pk = true → 0 < n ∧ ru_file g rs ∧ (en_nat (ru_ex rs).length ++ [58] ++ ru_by rs).length ≤ ln) ∧ ∀ j, j < n → fi_rev g ln (ru_ex rs) (fi_pk pk j) (L j) (fi_bef L j) (R j) (fi_prev R j)
theorem rd_scan {post : Int32 → St1 → Prop} {h c : Nat} {v : Int32} (hh : h ≤ 1) (hc : ¬ (48 ≤ c ∧ c ≤ 57)) (hc2 : c < 256) (H : ∀ q : Nat, post v (hN, nI h, ln, ll, rv, sl, aw, wl, ts, nI q, 0, iu, a1, a2, a3, a4, a5, a6, a7, a8, a9, a10, a11, a12, a13, a14, a15)) : ∀ (bs : List Nat) (p : Nat), (∀ b ∈ bs, b < 256 ∧ b ≠ 80) → sg_at (fi_g h a7) p (bs ++ (80 :: (en_num v ++ [c]))) → p + (bs ++ (80 :: (en_num v ++ [c]))).length ≤ 3700 → wX_listBefore_10 post hN (nI h) ln ll rv sl aw wl ts 0 iu a1 a2 a3 a4 a5 a6 a7 a8 a9 a10 a11 a12 a13 a14 a15 (bs.length + 1) (nI p)
  | [], p, hb, hs, hl => by
    simp only [List.nil_append, List.length_cons, List.length_append, List.length_nil] at hl
    have hg := rd_g0 h a7 a9
    unfold wX_listBefore_10
    refine rd_peek (c := 80) hh (by rw [rd_lim0]; omega) (by rw [hg]; exact hs.1) (br_t rfl (nm_r (nI_1 _) ?_))
    refine rd_num (v := v) (c := c) hh hc hc2 (by rw [rd_lim0]; omega) (by rw [hg]; exact hs.2) ?_
    exact H _
  | b :: bs, p, hb, hs, hl => by
    have hb1 := hb b (by simp)
    simp only [List.cons_append, List.length_cons, List.length_append, List.length_nil] at hl
    have hg := rd_g0 h a7 a9
    unfold wX_listBefore_10
    refine rd_peek (c := b) hh (by rw [rd_lim0]; omega) (by rw [hg]; exact hs.1) (br_f (fun z => hb1.2 ((nI_eq (by omega) (by omega)).mp z)) (nm_r (nI_1 _) ?_))
    exact rd_scan hh hc hc2 H bs (p + 1) (fun x hx => hb x (by simp [hx])) hs.2 (by simp only [List.length_cons, List.length_append, List.length_nil]; omega)
theorem en_ents_80 {pk : Bool} : ∀ E : List (Nat × Option Nat), (∀ e ∈ E, e.1 ≤ 8) → ∀ b ∈ en_ents pk E, b < 256 ∧ b ≠ 80
  | [], _, b, hb => by simp [en_ents] at hb
  | e :: E, hE, b, hb => by
    have h8 := hE e (by simp)
    rw [en_ents, List.mem_append] at hb
    rcases hb with hb | hb
    · rw [en_ent, List.mem_cons, List.mem_append] at hb
      rcases hb with hb | hb | hb
      · omega
      · obtain ⟨o, q⟩ := e
        cases q with
        | none => simp at hb; omega
        | some p =>
          dsimp only at hb
          rw [List.mem_cons] at hb
          rcases hb with hb | hb
          · cases pk <;> simp at hb <;> omega
          · have := en_nat_mem hb; omega
      · simp at hb; omega
    · exact en_ents_80 E (fun x hx => hE x (by simp [hx])) b hb
theorem rd_bef {post : Int32 → St1 → Prop} {h ln0 Lp : Nat} {sc : List Nat} {pk : Bool} {bef : Int32} {X P : Nat → ob_Ob} (hh : h ≤ 1) (hl : ln0 ≤ 3700) (hr : fi_rev (fi_g h a7) ln0 sc pk Lp bef X P) (H : ∀ q : Nat, post bef (hN, nI h, ln, ll, rv, sl, aw, wl, ts, nI q, 0, iu, a1, a2, a3, a4, a5, a6, a7, a8, a9, a10, a11, a12, a13, a14, a15)) : wpX_listBefore post (hN, nI h, ln, ll, rv, sl, aw, wl, ts, fr, fs, iu, a1, a2, a3, a4, a5, a6, a7, a8, a9, a10, a11, a12, a13, a14, a15) (nI Lp) := by
  obtain ⟨E, e1, e2, e3, e4, e5⟩ := hr
  rw [en_list] at e2 e3
  exact ⟨_, rd_scan (c := 46) hh (by omega) (by omega) H (en_ents pk E) Lp (en_ents_80 E (fun e he => (e4 e he).2.1)) e2 (by omega)⟩
theorem fi_bound {g : Nat → Int32} {ln0 n : Nat} {rs : List (Nat × Nat)} {pk : Bool} {R : Nat → Nat → ob_Ob} {L : Nat → Nat} (hf : fi_ok g ln0 rs pk n R L) : n ≤ 5 ∧ ln0 ≤ 2941 ∧ ∀ j, j < n → L j < 3000 := by
  obtain ⟨f1, f2, f3, f4, f5⟩ := hf
  refine ⟨f1, by omega, fun j hj => ?_⟩
  obtain ⟨E, e1, e2, e3, e4, e5⟩ := f5 j hj
  omega
theorem rd_listOf12 {post : Int32 → St1 → Prop} {h ln0 n r : Nat} {rs : List (Nat × Nat)} {pk : Bool} {R : Nat → Nat → ob_Ob} {L : Nat → Nat} (hh : h ≤ 1) (hf : fi_ok (fi_g h a7) ln0 rs pk n R L) (H : ∀ fr' fs' : Int32, post (nI (L r)) (hN, nI h, ln, ll, rv, sl, aw, wl, ts, fr', fs', iu, a1, a2, a3, a4, a5, a6, a7, a8, a9, a10, a11, a12, a13, a14, a15)) : ∀ (d : Nat) (fr fs : Int32), r + d < n → wX_listOf_12 post (nI r) (d + 1) (nI (L (r + d))) (nI (r + d)) hN (nI h) ln ll rv sl aw wl ts fr fs iu a1 a2 a3 a4 a5 a6 a7 a8 a9 a10 a11 a12 a13 a14 a15
  | 0, fr, fs, hd => br_t (nI_le (by omega) (by have := (fi_bound hf).1; omega)) (H fr fs)
  | d + 1, fr, fs, hd => by
    obtain ⟨b1, b2, b3⟩ := fi_bound hf
    have b4 := b3 (r + (d + 1)) hd
    refine br_f (nI_ge (by omega) (by omega)) (br_f (nI_pos (by omega)) ?_)
    refine rd_bef hh (by omega) (hf.2.2.2.2 (r + (d + 1)) hd) (fun q => nm_r (e' := nI (r + d)) ?_ ?_)
    · exact pk_m1 (r + d)
    · exact rd_listOf12 hh hf H d _ _ (by omega)
theorem rd_listOf {post : Int32 → St1 → Prop} {h ln0 n r : Nat} {rs : List (Nat × Nat)} {pk : Bool} {R : Nat → Nat → ob_Ob} {L : Nat → Nat} (hh : h ≤ 1) (hf : fi_ok (fi_g h a7) ln0 rs pk n R L) (hr : r < n) (H : ∀ fr' fs' : Int32, post (nI (L r)) (hN, nI h, ln, fi_bef L n, nI n, sl, aw, wl, ts, fr', fs', iu, a1, a2, a3, a4, a5, a6, a7, a8, a9, a10, a11, a12, a13, a14, a15)) : wpX_listOf post (hN, nI h, ln, fi_bef L n, nI n, sl, aw, wl, ts, fr, fs, iu, a1, a2, a3, a4, a5, a6, a7, a8, a9, a10, a11, a12, a13, a14, a15) (nI r) := by
  obtain ⟨m, rfl⟩ : ∃ m, n = m + 1 := ⟨n - 1, by omega⟩
  refine nm_r (e' := nI m) (nI_pred m) ⟨m - r + 1, ?_⟩
  have t := rd_listOf12 (hN := hN) (ln := ln) (ll := fi_bef L (m + 1)) (rv := nI (m + 1)) (sl := sl) (aw := aw) (wl := wl) (ts := ts) (iu := iu) (a1 := a1) (a2 := a2) (a3 := a3) (a4 := a4) (a5 := a5) (a6 := a6) (a8 := a8) (a9 := a9) (a10 := a10) (a11 := a11) (a12 := a12) (a13 := a13) (a14 := a14) (a15 := a15) hh hf H (m - r) fr fs (by omega)
  rw [show r + (m - r) = m by omega] at t
  exact t
end
section
/-! readObject, takeList, load -/
variable {hN hf ln ll rv sl aw wl ts fr fs iu : Int32} {a1 a2 a3 a4 a5 a6 a7 a8 a9 a10 a11 a12 a13 a14 a15 : Nat → Int32}
theorem rd_obj {post : St1 → Prop} {h o p : Nat} {x : ob_Ob} {pk : Bool} {rs : List (Nat × Nat)} {p2 : Int32} (hh : h ≤ 1) (ho : o ≤ 8) (hx : ob_fit x) (hp2 : p2 = if pk = true then 1 else 0) (hru : pk = true → ru_file (fi_g h a7) rs) (hu : ¬ iu = 0 → sg_at a9 0 (ru_ex rs)) (h1 : pk = true → ∃ xs ys, ru_ex rs = xs ++ (en_ob x ++ ys) ∧ xs.length = p) (h2 : pk = false → sg_at (fi_g h a7) p (en_ob x) ∧ p + (en_ob x).length ≤ 3700) (H : ∀ (sl' fr' iu' : Int32) (a9' a1' a2' a3' a4' a5' a6' : Nat → Int32), (¬ iu' = 0 → sg_at a9' 0 (ru_ex rs)) → ob_chg o a1 a2 a3 a4 a5 a6 a1' a2' a3' a4' a5' a6' → ob_at o x a1' a2' a3' a4' a5' → post (hN, nI h, ln, ll, rv, sl', aw, wl, ts, fr', 0, iu', a1', a2', a3', a4', a5', a6', a7, a8, a9', a10, a11, a12, a13, a14, a15)) : wpX_readObject post (hN, nI h, ln, ll, rv, sl, aw, wl, ts, fr, fs, iu, a1, a2, a3, a4, a5, a6, a7, a8, a9, a10, a11, a12, a13, a14, a15) (nI o) (nI p) p2 := by
  cases pk with
  | false =>
    have h3 := h2 rfl
    have e : p2 = 0 := hp2
    refine br_t e (rd_obj8 (b := 0) hh ho (by omega) e hx ?_ ?_ (fun q a1' a2' a3' a4' a5' a6' hc hx' => H _ _ _ _ a1' a2' a3' a4' a5' a6' hu hc hx'))
    · rw [e, rd_g0]; exact h3.1
    · rw [e, rd_lim0]; exact h3.2
  | true =>
    have e : p2 = 1 := hp2
    obtain ⟨xs, ys, h3, h4⟩ := h1 rfl
    have h5 := hru rfl
    have hl : p + (en_ob x).length ≤ 432 := by
      have := h5.2.1
      rw [h3, List.length_append, List.length_append] at this
      omega
    refine br_f (by rw [e]; decide) (un_pack hh h5 hu (fun sl' iu' fr' fs' a9' g1 g2 => ?_))
    refine rd_obj8 (b := 1) hh ho (by omega) e hx ?_ ?_ (fun q a1' a2' a3' a4' a5' a6' hc hx' => H _ _ _ _ a1' a2' a3' a4' a5' a6' g1 hc hx')
    · rw [rd_g1 (by rw [e]; decide)]
      have := g1 g2
      rw [h3] at this
      have := sg_l (sg_r this)
      rw [Nat.zero_add, h4] at this
      exact this
    · rw [e, rd_lim1]; omega
theorem ld_bit : ∀ s, s < 512 → ∀ o, o < 9 → ((nI s >>> (nI o &&& 31)) &&& 1 = 0 ↔ s.testBit o = false) := by decide +kernel
theorem ld_or : ∀ s, s < 512 → ∀ o, o < 9 → nI s ||| ((1 : Int32) <<< (nI o &&& 31)) = nI (s ||| 2 ^ o) := by decide +kernel
theorem ld_or_lt {s o : Nat} (hs : s < 512) (ho : o < 9) : s ||| 2 ^ o < 512 := Nat.or_lt_two_pow (n := 9) hs (Nat.pow_lt_pow_right (by omega) ho)
theorem ld_tb (s o j : Nat) : (s ||| 2 ^ o).testBit j = true ↔ s.testBit j = true ∨ o = j := by
  rw [Nat.testBit_or, Nat.testBit_two_pow]
  simp
/-- the objects that are known already, the others absent; all touched alike -/
def ld_arr (X : Nat → ob_Ob) (s : Nat) (tv : Int32) (a1 a2 a3 a4 a5 a6 : Nat → Int32) : Prop := ∀ o, 1 ≤ o → o ≤ 8 → ob_at o (if s.testBit o = true then X o else ob_no) a1 a2 a3 a4 a5 ∧ a6 o = tv
theorem ld_same {X : Nat → ob_Ob} {s o : Nat} {tv : Int32} (h : ld_arr X s tv a1 a2 a3 a4 a5 a6) (hx : s.testBit o = true ∨ X o = ob_no) : ld_arr X (s ||| 2 ^ o) tv a1 a2 a3 a4 a5 a6 := by
  intro j h1 h2
  have hj := h j h1 h2
  refine ⟨?_, hj.2⟩
  have e : (if (s ||| 2 ^ o).testBit j = true then X j else ob_no) = (if s.testBit j = true then X j else ob_no) := by
    by_cases c : s.testBit j = true
    · rw [if_pos c, if_pos ((ld_tb s o j).mpr (Or.inl c))]
    · rw [if_neg c]
      by_cases c2 : o = j
      · subst c2
        rcases hx with hx | hx
        · exact absurd hx c
        · rw [hx, ite_self]
      · rw [if_neg (fun z => by rcases (ld_tb s o j).mp z with w | w; exact c w; exact c2 w)]
  rw [e]
  exact hj.1
theorem ld_new {X : Nat → ob_Ob} {s o : Nat} {tv : Int32} {a1' a2' a3' a4' a5' a6' : Nat → Int32} (hX : ∀ o, (X o).2.length ≤ 6) (h : ld_arr X s tv a1 a2 a3 a4 a5 a6) (hc : ob_chg o a1 a2 a3 a4 a5 a6 a1' a2' a3' a4' a5' a6') (hx : ob_at o (X o) a1' a2' a3' a4' a5') : ld_arr X (s ||| 2 ^ o) tv a1' a2' a3' a4' a5' (upd a6' o tv) := by
  intro j h1 h2
  have hj := h j h1 h2
  by_cases c : j = o
  · subst c
    rw [if_pos ((ld_tb s j j).mpr (Or.inr rfl)), pk_us]
    exact ⟨hx, rfl⟩
  · rw [pk_un c, (hc.1 j c).2.2]
    refine ⟨?_, hj.2⟩
    have e : (if (s ||| 2 ^ o).testBit j = true then X j else ob_no) = (if s.testBit j = true then X j else ob_no) := by
      by_cases c2 : s.testBit j = true
      · rw [if_pos c2, if_pos ((ld_tb s o j).mpr (Or.inl c2))]
      · rw [if_neg c2, if_neg (fun z => by rcases (ld_tb s o j).mp z with w | w; exact c2 w; exact c w.symm)]
    rw [e]
    refine ob_other ?_ c hj.1 hc
    by_cases c2 : s.testBit j = true
    · rw [if_pos c2]; exact hX j
    · rw [if_neg c2]; simp [ob_no]
theorem ld_list9 {post : Int32 → St1 → Prop} {h s0 : Nat} {X : Nat → ob_Ob} {pk : Bool} {rs : List (Nat × Nat)} {x3 tv : Int32} {tail : List Nat} (hh : h ≤ 1) (hX : ∀ o, ob_fit (X o)) (hru : pk = true → ru_file (fi_g h a7) rs) (htv : tv = if x3 = rv - 1 then 0 else 1) : ∀ (E : List (Nat × Option Nat)) (p s i : Nat) (sl fr fs iu : Int32) (a9 a1 a2 a3 a4 a5 a6 : Nat → Int32), E.length + i ≤ 8 → s < 512 → (∀ o, s0.testBit o = true → s.testBit o = true) → (∀ e ∈ E, 1 ≤ e.1 ∧ e.1 ≤ 8 ∧ (¬ s0.testBit e.1 = true → (e.2 = none → X e.1 = ob_no) ∧ ∀ q, e.2 = some q → q < 10000 ∧ (pk = true → ∃ xs ys, ru_ex rs = xs ++ (en_ob (X e.1) ++ ys) ∧ xs.length = q) ∧ (pk = false → sg_at (fi_g h a7) q (en_ob (X e.1)) ∧ q + (en_ob (X e.1)).length ≤ 3700))) → (∀ e ∈ E, ∀ q, e.2 = some q → q < 10000) → sg_at (fi_g h a7) p (en_ents pk E ++ (80 :: tail)) → p + (en_ents pk E ++ (80 :: tail)).length ≤ 3700 → (¬ iu = 0 → sg_at a9 0 (ru_ex rs)) → ld_arr X s tv a1 a2 a3 a4 a5 a6 → (∀ (s' : Nat) (sl' fr' fs' iu' : Int32) (a9' a1' a2' a3' a4' a5' a6' : Nat → Int32), s' < 512 → (∀ o, s'.testBit o = true ↔ s.testBit o = true ∨ ∃ e ∈ E, e.1 = o) → (¬ iu' = 0 → sg_at a9' 0 (ru_ex rs)) → ld_arr X s' tv a1' a2' a3' a4' a5' a6' → post (nI s') (hN, nI h, ln, ll, rv, sl', aw, wl, ts, fr', fs', iu', a1', a2', a3', a4', a5', a6', a7, a8, a9', a10, a11, a12, a13, a14, a15)) → wX_takeList_9 post x3 (E.length + 1) (nI s) (nI p) (nI i) hN (nI h) ln ll rv sl aw wl ts fr fs iu a1 a2 a3 a4 a5 a6 a7 a8 a9 a10 a11 a12 a13 a14 a15
  | [], p, s, i, sl, fr, fs, iu, a9, a1, a2, a3, a4, a5, a6, hi, hs, hs0, hE, hE2, hsg, hl, hu, ha, H => by
    rw [List.length_nil, Nat.zero_add] at hi
    have fin : ∀ fr' fs' : Int32, post (nI s) (hN, nI h, ln, ll, rv, sl, aw, wl, ts, fr', fs', iu, a1, a2, a3, a4, a5, a6, a7, a8, a9, a10, a11, a12, a13, a14, a15) := fun fr' fs' => H s _ _ _ _ _ a1 a2 a3 a4 a5 a6 hs (fun o => ⟨Or.inl, fun z => by rcases z with z | ⟨e, z, _⟩; exact z; simp at z⟩) hu ha
    by_cases c : i = 8
    · exact br_t (by rw [c]; decide) (fin _ _)
    · simp only [en_ents, List.nil_append, List.length_cons] at hl
      refine br_f (nI_ge (b := 8) (by omega) (by decide)) (rd_peek (c := 80) hh (by rw [rd_lim0]; omega) (by rw [rd_g0]; exact hsg.1) (rd_dig (by omega) (fun z => by omega) (fun _ => br_t rfl (fin _ _))))
  | e :: E, p, s, i, sl, fr, fs, iu, a9, a1, a2, a3, a4, a5, a6, hi, hs, hs0, hE, hE2, hsg, hl, hu, ha, H => by
    obtain ⟨e1, e2, e3⟩ := hE e (by simp)
    have e4 := hE2 e (by simp)
    obtain ⟨o, q⟩ := e
    dsimp only at e1 e2 e3 e4
    rw [List.length_cons] at hi
    rw [en_ents, List.append_assoc] at hsg hl
    -- what comes behind an entry: the next ones
    have cont : ∀ (sl' fr' fs' iu' : Int32) (a9' a1' a2' a3' a4' a5' a6' : Nat → Int32), (¬ iu' = 0 → sg_at a9' 0 (ru_ex rs)) → ld_arr X (s ||| 2 ^ o) tv a1' a2' a3' a4' a5' a6' → wX_takeList_137 post (wX_takeList_9 post x3 (E.length + 1)) x3 (nI s) (nI (p + (en_ent pk (o, q)).length)) (nI i) (nI o) hN (nI h) ln ll rv sl' aw wl ts fr' fs' iu' a1' a2' a3' a4' a5' a6' a7 a8 a9' a10 a11 a12 a13 a14 a15 := by
      intro sl' fr' fs' iu' a9' a1' a2' a3' a4' a5' a6' hu' ha'
      refine nm_r (ld_or s hs o (by omega)) (nm_r (nI_1 i) ?_)
      refine ld_list9 hh hX hru htv E _ (s ||| 2 ^ o) (i + 1) sl' fr' fs' iu' a9' a1' a2' a3' a4' a5' a6' (by omega) (ld_or_lt hs (by omega)) (fun j hj => (ld_tb s o j).mpr (Or.inl (hs0 j hj))) (fun e he => hE e (by simp [he])) (fun e he => hE2 e (by simp [he])) (sg_r hsg) (by rw [List.length_append] at hl; omega) hu' ha' (fun s' sl'' fr'' fs'' iu'' a9'' a1'' a2'' a3'' a4'' a5'' a6'' g1 g2 g3 g4 => ?_)
      refine H s' sl'' fr'' fs'' iu'' a9'' a1'' a2'' a3'' a4'' a5'' a6'' g1 (fun j => ?_) g3 g4
      rw [g2, ld_tb]
      constructor
      · rintro ((z | z) | ⟨e, z1, z2⟩)
        · exact Or.inl z
        · exact Or.inr ⟨(o, q), by simp, z⟩
        · exact Or.inr ⟨e, by simp [z1], z2⟩
      · rintro (z | ⟨e, z1, z2⟩)
        · exact Or.inl (Or.inl z)
        · rcases List.mem_cons.mp z1 with w | w
          · rw [w] at z2
            exact Or.inl (Or.inr z2)
          · exact Or.inr ⟨e, w, z2⟩
    have hg := rd_g0 h a7 a9
    have hgt : ∀ b, ¬ b = true → b = false := fun b hb => by cases b <;> simp_all
    have hbit := ld_bit s hs o (by omega)
    cases q with
    | none =>
      have en : en_ent pk (o, none) = [48 + o, 45, 44] := rfl
      rw [en] at hsg hl cont
      simp only [List.length_append, List.length_cons, List.length_nil] at hl
      refine br_f (nI_ge (b := 8) (by omega) (by decide)) ?_
      refine rd_peek (c := 48 + o) hh (by rw [rd_lim0]; omega) (by rw [hg]; exact hsg.1) (rd_dig (by omega) (fun _ => br_f (by decide) ?_) (fun z => absurd (by omega) z))
      refine rd_take (c := 48 + o) hh (by rw [rd_lim0]; omega) (by rw [hg]; exact hsg.1) (nm_r (ob_m48 o) ?_)
      refine rd_take (c := 45) hh (by rw [rd_lim0]; omega) (by rw [hg]; exact hsg.2.1) (br_t rfl ?_)
      refine nm_r (nI_1 _) ?_
      refine br_c (fun z => br_t (by decide) ?_) (fun z => ?_)
      · refine cont _ _ _ _ _ a1 a2 a3 a4 a5 a6 hu (ld_same ha (Or.inr ((e3 (fun w => ?_)).1 rfl)))
        have := hbit.mp z
        rw [hs0 o w] at this
        simp at this
      · refine cont _ _ _ _ _ a1 a2 a3 a4 a5 a6 hu (ld_same ha (Or.inl ?_))
        cases hb : s.testBit o with
        | true => rfl
        | false => exact absurd (hbit.mpr hb) z
    | some q =>
      have e5 := e4 q rfl
      have en : en_ent pk (o, some q) = (48 + o) :: (((if pk = true then 42 else 43) :: en_nat q) ++ [44]) := rfl
      obtain ⟨m, hm, hm2⟩ : ∃ m : Nat, (if pk = true then 42 else 43) = m ∧ (m = 42 ∧ pk = true ∨ m = 43 ∧ pk = false) := by
        cases pk
        · exact ⟨43, rfl, Or.inr ⟨rfl, rfl⟩⟩
        · exact ⟨42, rfl, Or.inl ⟨rfl, rfl⟩⟩
      rw [hm] at en
      have el : (en_ent pk (o, some q)).length = (en_nat q).length + 3 := by rw [en]; simp
      rw [el] at cont
      rw [List.length_append, el, List.length_append, List.length_cons] at hl
      rw [en, List.cons_append, List.append_assoc, List.cons_append] at hsg
      have hs3 : sg_at (fi_g h a7) (p + 1 + 1) (en_nat q ++ ([44] ++ (en_ents pk E ++ 80 :: tail))) := hsg.2.2
      rw [← List.append_assoc] at hs3
      have eq : en_num (nI q) = en_nat q := en_num_nI (by omega)
      refine br_f (nI_ge (b := 8) (by omega) (by decide)) ?_
      refine rd_peek (c := 48 + o) hh (by rw [rd_lim0]; omega) (by rw [hg]; exact hsg.1) (rd_dig (by omega) (fun _ => br_f (by decide) ?_) (fun z => absurd (by omega) z))
      refine rd_take (c := 48 + o) hh (by rw [rd_lim0]; omega) (by rw [hg]; exact hsg.1) (nm_r (ob_m48 o) ?_)
      refine rd_take (c := m) hh (by rw [rd_lim0]; omega) (by rw [hg]; exact hsg.2.1) (br_f (fun z => by have := (nI_eq (a := m) (b := 45) (by omega) (by omega)).mp z; omega) ?_)
      refine rd_num (v := nI q) (c := 44) hh (by omega) (by omega) (by rw [eq, rd_lim0]; omega) (by rw [eq, hg]; exact sg_l hs3) ?_
      rw [eq]
      refine nm_r (e' := nI (p + ((en_nat q).length + 3))) (by rw [nI_1]; congr 1; omega) ?_
      refine br_c (fun z => br_f (nI_pos (by omega)) ?_) (fun z => ?_)
      · have nb : ¬ s0.testBit o = true := fun w => by
          have := hbit.mp z
          rw [hs0 o w] at this
          simp at this
        obtain ⟨k1, k2, k3⟩ := (e3 nb).2 q rfl
        have rdo : ∀ pz : Int32, pz = (if pk = true then 1 else 0) → wX_takeList_112 post (wX_takeList_9 post x3 (E.length + 1)) x3 (nI s) (nI (p + ((en_nat q).length + 3))) (nI i) (nI o) pz (nI q) (nI o) hN (nI h) ln ll rv sl aw wl ts (nI (p + 1 + 1 + (en_nat q).length)) 0 iu a1 a2 a3 a4 a5 a6 a7 a8 a9 a10 a11 a12 a13 a14 a15 := by
          intro pz hpz
          unfold wX_takeList_112
          refine rd_obj (x := X o) (pk := pk) (rs := rs) hh e2 (hX o) hpz hru hu k2 k3 (fun sl' fr' iu' a9' a1' a2' a3' a4' a5' a6' g1 g2 g3 => ?_)
          have fin : ∀ v : Int32, v = tv → vp_nar .boolean v = v → wX_takeList_136 post (wX_takeList_9 post x3 (E.length + 1)) x3 (nI s) (nI (p + ((en_nat q).length + 3))) (nI i) (nI o) v (nI o) hN (nI h) ln ll rv sl' aw wl ts fr' 0 iu' a1' a2' a3' a4' a5' a6' a7 a8 a9' a10 a11 a12 a13 a14 a15 := by
            intro v hv hv2
            refine ⟨pk_in o 9 (by omega), nm_r (e' := upd a6' o tv) (by rw [hv2, hv, nI_clamp (by omega)]) ?_⟩
            exact cont _ _ _ _ _ _ _ _ _ _ _ g1 (ld_new (fun j => (hX j).2.1) ha g2 g3)
          by_cases c : x3 = rv - 1
          · exact br_t c (fin 0 (by rw [htv, if_pos c]) rfl)
          · exact br_f c (fin 1 (by rw [htv, if_neg c]) rfl)
        rcases hm2 with ⟨w1, w2⟩ | ⟨w1, w2⟩
        · exact br_t (by rw [w1]; rfl) (rdo 1 (by rw [w2]; rfl))
        · exact br_f (by rw [w1]; decide) (rdo 0 (by rw [w2]; rfl))
      · refine cont _ _ _ _ _ a1 a2 a3 a4 a5 a6 hu (ld_same ha (Or.inl ?_))
        cases hb : s.testBit o with
        | true => rfl
        | false => exact absurd (hbit.mpr hb) z
end
section
/-! takeList over a revision, load -/
variable {hN hf ln ll rv sl aw wl ts fr fs iu : Int32} {a1 a2 a3 a4 a5 a6 a7 a8 a9 a10 a11 a12 a13 a14 a15 : Nat → Int32}
theorem ld_list {post : Int32 → St1 → Prop} {h s ln0 Lp : Nat} {X Y P : Nat → ob_Ob} {pk : Bool} {rs : List (Nat × Nat)} {x3 tv bef : Int32} (hh : h ≤ 1) (hl : ln0 ≤ 3700) (hX : ∀ o, ob_fit (X o)) (hru : pk = true → ru_file (fi_g h a7) rs) (htv : tv = if x3 = rv - 1 then 0 else 1) (hr : fi_rev (fi_g h a7) ln0 (ru_ex rs) pk Lp bef Y P) (hs : s < 512) (hXY : ∀ o, 1 ≤ o → o ≤ 8 → ¬ s.testBit o = true → X o = Y o) (hu : ¬ iu = 0 → sg_at a9 0 (ru_ex rs)) (ha : ld_arr X s tv a1 a2 a3 a4 a5 a6) (H : ∀ (s' : Nat) (sl' fr' fs' iu' : Int32) (a9' a1' a2' a3' a4' a5' a6' : Nat → Int32), s' < 512 → (∀ o, 1 ≤ o → o ≤ 8 → ¬ s'.testBit o = true → X o = P o) → (¬ iu' = 0 → sg_at a9' 0 (ru_ex rs)) → ld_arr X s' tv a1' a2' a3' a4' a5' a6' → post (nI s') (hN, nI h, ln, ll, rv, sl', aw, wl, ts, fr', fs', iu', a1', a2', a3', a4', a5', a6', a7, a8, a9', a10, a11, a12, a13, a14, a15)) : wpX_takeList post (hN, nI h, ln, ll, rv, sl, aw, wl, ts, fr, fs, iu, a1, a2, a3, a4, a5, a6, a7, a8, a9, a10, a11, a12, a13, a14, a15) (nI Lp) (nI s) x3 := by
  obtain ⟨E, e1, e2, e3, e4, e5⟩ := hr
  rw [en_list] at e2 e3
  refine ⟨E.length + 1, ld_list9 (s0 := s) hh hX hru htv E Lp s 0 sl fr fs iu a9 a1 a2 a3 a4 a5 a6 (by omega) hs (fun _ z => z) (fun e he => ?_) (fun e he q hq => ((e4 e he).2.2.2 q hq).1) e2 (by omega) hu ha (fun s' sl' fr' fs' iu' a9' a1' a2' a3' a4' a5' a6' g1 g2 g3 g4 => H s' sl' fr' fs' iu' a9' a1' a2' a3' a4' a5' a6' g1 (fun o h1 h2 h3 => ?_) g3 g4)⟩
  · obtain ⟨k1, k2, k3, k4⟩ := e4 e he
    refine ⟨k1, k2, fun nb => ?_⟩
    rw [hXY e.1 k1 k2 nb]
    refine ⟨k3, fun q hq => ?_⟩
    obtain ⟨m1, m2, m3⟩ := k4 q hq
    exact ⟨m1, m2, fun z => ⟨(m3 z).1, by have := (m3 z).2; omega⟩⟩
  · have n1 : ¬ s.testBit o = true := fun z => h3 ((g2 o).mpr (Or.inl z))
    rw [hXY o h1 h2 n1]
    exact e5 o h1 h2 (fun e he z => h3 ((g2 o).mpr (Or.inr ⟨e, he, z⟩)))
theorem ld_61 {post : St1 → Prop} {h ln0 n : Nat} {X : Nat → ob_Ob} {pk : Bool} {rs : List (Nat × Nat)} {R : Nat → Nat → ob_Ob} {L : Nat → Nat} {x1 tv : Int32} (hh : h ≤ 1) (hX : ∀ o, ob_fit (X o)) (hf : fi_ok (fi_g h a7) ln0 rs pk n R L) (htv : tv = if x1 = rv - 1 then 0 else 1) (H : ∀ (sl' fr' fs' iu' : Int32) (a9' a1' a2' a3' a4' a5' a6' : Nat → Int32), (¬ iu' = 0 → sg_at a9' 0 (ru_ex rs)) → ob_all X a1' a2' a3' a4' a5' → (∀ o, 1 ≤ o → o ≤ 8 → a6' o = tv) → post (hN, nI h, ln, ll, rv, sl', aw, wl, ts, fr', fs', iu', a1', a2', a3', a4', a5', a6', a7, a8, a9', a10, a11, a12, a13, a14, a15)) : ∀ (j i s : Nat) (sl fr fs iu : Int32) (a9 a1 a2 a3 a4 a5 a6 : Nat → Int32), j ≤ n → i + j ≤ 5 → s < 512 → (∀ o, 1 ≤ o → o ≤ 8 → ¬ s.testBit o = true → X o = fi_prev R j o) → (¬ iu = 0 → sg_at a9 0 (ru_ex rs)) → ld_arr X s tv a1 a2 a3 a4 a5 a6 → wX_load_61 post x1 (j + 1) (nI s) (fi_bef L j) (nI i) hN (nI h) ln ll rv sl aw wl ts fr fs iu a1 a2 a3 a4 a5 a6 a7 a8 a9 a10 a11 a12 a13 a14 a15
  | 0, i, s, sl, fr, fs, iu, a9, a1, a2, a3, a4, a5, a6, hj, hi, hs, hXY, hu, ha => by
    have fin : post (hN, nI h, ln, ll, rv, sl, aw, wl, ts, fr, fs, iu, a1, a2, a3, a4, a5, a6, a7, a8, a9, a10, a11, a12, a13, a14, a15) := by
      refine H sl fr fs iu a9 a1 a2 a3 a4 a5 a6 hu (fun o h1 h2 => ?_) (fun o h1 h2 => (ha o h1 h2).2)
      have := (ha o h1 h2).1
      by_cases c : s.testBit o = true
      · rw [if_pos c] at this
        exact this
      · rw [if_neg c] at this
        rw [hXY o h1 h2 c]
        exact this
    exact br_c (fun _ => fin) (fun _ => br_t (show (-1 : Int32) < 0 by decide) fin)
  | j + 1, i, s, sl, fr, fs, iu, a9, a1, a2, a3, a4, a5, a6, hj, hi, hs, hXY, hu, ha => by
    obtain ⟨b1, b2, b3⟩ := fi_bound hf
    have b4 := b3 j (by omega)
    have hr := hf.2.2.2.2 j (by omega)
    have hru : fi_pk pk j = true → ru_file (fi_g h a7) rs := by
      intro z
      cases j with
      | zero => exact (hf.2.2.2.1 z).2.1
      | succ j => simp [fi_pk] at z
    refine br_f (nI_ge (b := 5) (by omega) (by decide)) (br_f (nI_pos (by omega)) ?_)
    refine ld_list hh (by omega) hX hru htv hr hs hXY hu ha (fun s' sl' fr' fs' iu' a9' a1' a2' a3' a4' a5' a6' g1 g2 g3 g4 => ?_)
    refine rd_bef hh (by omega) hr (fun q => nm_r (nI_1 i) ?_)
    exact ld_61 hh hX hf htv H j (i + 1) s' sl' (nI q) 0 iu' a9' a1' a2' a3' a4' a5' a6' (by omega) (by omega) g1 g2 g3 g4
theorem ld_2 {post : St1 → Prop} {x1 tv : Int32} (htv : tv = if x1 = rv - 1 then 0 else 1) (H : ∀ (a1' a2' a3' a4' a5' a6' : Nat → Int32), (∀ X, ld_arr X 0 tv a1' a2' a3' a4' a5' a6') → (((0 ≤ x1 → (wpX_listOf (fun r_3 u => match u with | (hN, hf, ln, ll, rv, sl, aw, wl, ts, fr, fs, iu, a1, a2, a3, a4, a5, a6, a7, a8, a9, a10, a11, a12, a13, a14, a15) => (∃ fu61 : Nat, wX_load_61 post x1 fu61 0 r_3 0 hN hf ln ll rv sl aw wl ts fr fs iu a1 a2 a3 a4 a5 a6 a7 a8 a9 a10 a11 a12 a13 a14 a15)) (hN, hf, ln, ll, rv, sl, aw, wl, ts, fr, fs, iu, a1', a2', a3', a4', a5', a6', a7, a8, a9, a10, a11, a12, a13, a14, a15) x1)) ∧ (¬ 0 ≤ x1 → (∃ fu61 : Nat, wX_load_61 post x1 fu61 0 (-1) 0 hN hf ln ll rv sl aw wl ts fr fs iu a1' a2' a3' a4' a5' a6' a7 a8 a9 a10 a11 a12 a13 a14 a15))))) : ∀ (rem k : Nat) (a1 a2 a3 a4 a5 a6 : Nat → Int32), k + rem = 8 → (∀ o, 1 ≤ o → o ≤ k → ob_at o ob_no a1 a2 a3 a4 a5 ∧ a6 o = tv) → wX_load_2 post x1 (rem + 1) (nI (k + 1)) hN hf ln ll rv sl aw wl ts fr fs iu a1 a2 a3 a4 a5 a6 a7 a8 a9 a10 a11 a12 a13 a14 a15
  | 0, k, a1, a2, a3, a4, a5, a6, hk, ha => by
    have : k = 8 := by omega
    subst this
    refine br_t (nI_lt (a := 8) (by omega) (by omega)) (H a1 a2 a3 a4 a5 a6 (fun X o h1 h2 => ?_))
    rw [Nat.zero_testBit, if_neg (by decide)]
    exact ha o h1 h2
  | rem + 1, k, a1, a2, a3, a4, a5, a6, hk, ha => by
    have hin : vp_in (nI (k + 1)) 9 := pk_in (k + 1) 9 (by omega)
    have hc : (nI (k + 1)).toNatClampNeg = k + 1 := nI_clamp (by omega)
    refine br_f (nI_nlt (a := 8) (by omega) (by omega)) (ob_become (o := k + 1) (by omega) ?_)
    have go : ∀ v : Int32, v = tv → wX_load_2 post x1 (rem + 1) (nI (k + 1 + 1)) hN hf ln ll rv sl aw wl ts fr fs iu (upd a1 (k + 1) 0) (upd a2 (k + 1) 0) a3 a4 a5 (upd (upd a6 (k + 1) 1) (k + 1) v) a7 a8 a9 a10 a11 a12 a13 a14 a15 := by
      intro v hv
      refine ld_2 htv H rem (k + 1) _ _ _ _ _ _ (by omega) (fun o h1 h2 => ?_)
      by_cases c : o = k + 1
      · subst c
        rw [pk_us]
        exact ⟨⟨pk_us, pk_us, fun i it hi => by simp [ob_no] at hi⟩, hv⟩
      · have := ha o h1 (by omega)
        rw [pk_un c, pk_un c]
        exact ⟨ob_other (by simp [ob_no]) c this.1 (ob_chg_become (x := 0) (y := 0) (w := 1) (a6 := a6)), this.2⟩
    by_cases c : x1 = rv - 1
    · exact br_t c ⟨hin, nm_r (by rw [hc]) (nm_r (nI_1 _) (go 0 (by rw [htv, if_pos c])))⟩
    · exact br_f c ⟨hin, nm_r (by rw [hc]) (nm_r (nI_1 _) (go 1 (by rw [htv, if_neg c])))⟩
theorem ld_load {post : St1 → Prop} {h ln0 n j : Nat} {pk : Bool} {rs : List (Nat × Nat)} {R : Nat → Nat → ob_Ob} {L : Nat → Nat} {x1 tv : Int32} (hh : h ≤ 1) (hf : fi_ok (fi_g h a7) ln0 rs pk n R L) (hj : j ≤ n) (hx1 : (j = 0 ∧ x1 = -1) ∨ (∃ r, j = r + 1 ∧ x1 = nI r)) (hu : ¬ iu = 0 → sg_at a9 0 (ru_ex rs)) (htv : tv = if x1 = nI n - 1 then 0 else 1) (H : ∀ (sl' fr' fs' iu' : Int32) (a9' a1' a2' a3' a4' a5' a6' : Nat → Int32), (¬ iu' = 0 → sg_at a9' 0 (ru_ex rs)) → ob_all (fi_prev R j) a1' a2' a3' a4' a5' → (∀ o, 1 ≤ o → o ≤ 8 → a6' o = tv) → post (hN, nI h, ln, fi_bef L n, nI n, sl', aw, wl, ts, fr', fs', iu', a1', a2', a3', a4', a5', a6', a7, a8, a9', a10, a11, a12, a13, a14, a15)) : wpX_load post (hN, nI h, ln, fi_bef L n, nI n, sl, aw, wl, ts, fr, fs, iu, a1, a2, a3, a4, a5, a6, a7, a8, a9, a10, a11, a12, a13, a14, a15) x1 := by
  obtain ⟨b1, b2, b3⟩ := fi_bound hf
  have hX : ∀ o, ob_fit (fi_prev R j o) := by
    intro o
    cases j with
    | zero => exact ob_okfit ob_okno
    | succ j => exact ob_okfit (hf.2.2.1 j o)
  refine ⟨9, ld_2 htv (fun a1' a2' a3' a4' a5' a6' ha => ?_) 8 0 a1 a2 a3 a4 a5 a6 rfl (fun o h1 h2 => absurd h2 (by omega))⟩
  rcases hx1 with ⟨h1, h2⟩ | ⟨r, h1, h2⟩
  · subst h1
    refine br_f (by rw [h2]; decide) ⟨1, ?_⟩
    exact ld_61 hh hX hf htv H 0 0 0 sl fr fs iu a9 a1' a2' a3' a4' a5' a6' (by omega) (by omega) (by omega) (fun _ _ _ _ => rfl) hu (ha _)
  · subst h1
    refine br_t (by rw [h2]; exact nI_pos' (by omega)) ?_
    rw [h2]
    refine rd_listOf hh hf (by omega) (fun fr' fs' => ⟨r + 2, ?_⟩)
    rw [← h2]
    exact ld_61 hh hX hf htv H (r + 1) 0 0 sl fr' fs' iu a9 a1' a2' a3' a4' a5' a6' (by omega) (by omega) (by omega) (fun _ _ _ _ => rfl) hu (ha _)
end
section
/-! keepAll, bringBack, isAsWas, changed -/
variable {hN hf ln ll rv sl aw wl ts fr fs iu : Int32} {a1 a2 a3 a4 a5 a6 a7 a8 a9 a10 a11 a12 a13 a14 a15 : Nat → Int32}
theorem kp_37 {post : St1 → Prop} {J : Int32 → (Nat → Int32) → (Nat → Int32) → (Nat → Int32) → (Nat → Int32) → (Nat → Int32) → (Nat → Int32) → (Nat → Int32) → (Nat → Int32) → (Nat → Int32) → (Nat → Int32) → (Nat → Int32) → (Nat → Int32) → (Nat → Int32) → (Nat → Int32) → (Nat → Int32) → Prop} {o sz : Nat} (ho : o ≤ 8) (hs : a2 o = nI sz) (hs6 : sz ≤ 6) : ∀ (rem i : Nat) (a13 a14 a15 : Nat → Int32), i + rem = sz → (∀ t, t < i → a13 (6 * o + t) = a3 (6 * o + t) ∧ a14 (6 * o + t) = a4 (6 * o + t) ∧ a15 (6 * o + t) = a5 (6 * o + t)) → (∀ a13' a14' a15' : Nat → Int32, (∀ t, t < sz → a13' (6 * o + t) = a3 (6 * o + t) ∧ a14' (6 * o + t) = a4 (6 * o + t) ∧ a15' (6 * o + t) = a5 (6 * o + t)) → (∀ j, j < 6 * o ∨ 6 * o + 6 ≤ j → a13' j = a13 j ∧ a14' j = a14 j ∧ a15' j = a15 j) → J (nI (o + 1)) a1 a2 a3 a4 a5 a6 a7 a8 a9 a10 a11 a12 a13' a14' a15') → wX_keepAll_37 post J (nI o) hN hf ln ll rv sl aw wl ts fr fs iu (rem + 1) (nI (6 * o + i)) a1 a2 a3 a4 a5 a6 a7 a8 a9 a10 a11 a12 a13 a14 a15
  | 0, i, a13, a14, a15, hi, h0, H => by
    refine ⟨pk_in o 9 (by omega), ?_⟩
    rw [nI_clamp (show o < 2 ^ 31 by omega), hs, ob_ix]
    refine br_t (nI_le (by omega) (by omega)) (nm_r (nI_1 o) (H a13 a14 a15 (fun t ht => h0 t (by omega)) (fun _ _ => ⟨rfl, rfl, rfl⟩)))
  | rem + 1, i, a13, a14, a15, hi, h0, H => by
    have hin : vp_in (nI (6 * o + i)) 54 := pk_in (6 * o + i) 54 (by omega)
    have hc : (nI (6 * o + i)).toNatClampNeg = 6 * o + i := nI_clamp (by omega)
    refine ⟨pk_in o 9 (by omega), ?_⟩
    rw [nI_clamp (show o < 2 ^ 31 by omega), hs, ob_ix]
    refine br_f (nI_ge (by omega) (by omega)) ⟨hin, hin, nm_r (by rw [hc]) ⟨hin, hin, nm_r (by rw [hc]) ⟨hin, hin, nm_r (by rw [hc]) (nm_r (nI_1 _) ?_)⟩⟩⟩
    refine kp_37 ho hs hs6 rem (i + 1) _ _ _ (by omega) (fun t ht => ?_) (fun a13' a14' a15' g1 g2 => H a13' a14' a15' g1 (fun j hj => ?_))
    · by_cases c : t = i
      · rw [c, pk_us, pk_us, pk_us]
        exact ⟨rfl, rfl, rfl⟩
      · rw [pk_un (by omega), pk_un (by omega), pk_un (by omega)]
        exact h0 t (by omega)
    · have := g2 j hj
      rw [pk_un (by omega), pk_un (by omega), pk_un (by omega)] at this
      exact this
theorem ob_copy {o sz : Nat} {x : ob_Ob} {a1' a2' a3' a4' a5' : Nat → Int32} (h : ob_at o x a1 a2 a3 a4 a5) (hs : x.2.length = sz) (h1 : a1' o = a1 o) (h2 : a2' o = a2 o) (h3 : ∀ t, t < sz → a3' (6 * o + t) = a3 (6 * o + t) ∧ a4' (6 * o + t) = a4 (6 * o + t) ∧ a5' (6 * o + t) = a5 (6 * o + t)) : ob_at o x a1' a2' a3' a4' a5' := by
  refine ⟨by rw [h1]; exact h.1, by rw [h2]; exact h.2.1, fun i it hi => ?_⟩
  have hl : i < x.2.length := by
    rcases Nat.lt_or_ge i x.2.length with z | z
    · exact z
    · rw [List.getElem?_eq_none z] at hi; simp at hi
  have g := h3 i (by omega)
  rw [g.1, g.2.1, g.2.2]
  exact h.2.2 i it hi
theorem kp_2 {post : St1 → Prop} {C : Nat → ob_Ob} (hC : ob_all C a1 a2 a3 a4 a5) (hfi : ∀ o, ob_fit (C o)) (H : ∀ a11' a12' a13' a14' a15' : Nat → Int32, ob_all C a11' a12' a13' a14' a15' → post (hN, hf, ln, ll, rv, sl, aw, wl, ts, fr, fs, iu, a1, a2, a3, a4, a5, a6, a7, a8, a9, a10, a11', a12', a13', a14', a15')) : ∀ (rem k : Nat) (a11 a12 a13 a14 a15 : Nat → Int32), k + rem = 8 → (∀ o, 1 ≤ o → o ≤ k → ob_at o (C o) a11 a12 a13 a14 a15) → wX_keepAll_2 post hN hf ln ll rv sl aw wl ts fr fs iu (rem + 1) (nI (k + 1)) a1 a2 a3 a4 a5 a6 a7 a8 a9 a10 a11 a12 a13 a14 a15
  | 0, k, a11, a12, a13, a14, a15, hk, h0 => by
    have : k = 8 := by omega
    subst this
    exact br_t (nI_lt (a := 8) (by omega) (by omega)) (H a11 a12 a13 a14 a15 h0)
  | rem + 1, k, a11, a12, a13, a14, a15, hk, h0 => by
    have hin : vp_in (nI (k + 1)) 9 := pk_in (k + 1) 9 (by omega)
    have hc : (nI (k + 1)).toNatClampNeg = k + 1 := nI_clamp (by omega)
    have hat := hC (k + 1) (by omega) (by omega)
    have h6 := (hfi (k + 1)).2.1
    refine br_f (nI_nlt (a := 8) (by omega) (by omega)) ⟨hin, hin, nm_r (by rw [hc]) ⟨hin, hin, nm_r (by rw [hc]) (nm_r (ob_6 _) ⟨_, kp_37 (o := k + 1) (by omega) hat.2.1 h6 (C (k + 1)).2.length 0 _ _ _ (by omega) (fun t ht => absurd ht (by omega)) (fun a13' a14' a15' g1 g2 => ?_)⟩)⟩⟩
    refine kp_2 hC hfi H rem (k + 1) _ _ _ _ _ (by omega) (fun o h1 h2 => ?_)
    by_cases c : o = k + 1
    · subst c
      exact ob_copy hat rfl pk_us pk_us g1
    · refine ob_keep (hfi o).2.1 (h0 o h1 (by omega)) (pk_un c) (pk_un c) (fun i hi => g2 (6 * o + i) ?_)
      omega
theorem kp_all {post : St1 → Prop} {C : Nat → ob_Ob} (hC : ob_all C a1 a2 a3 a4 a5) (hfi : ∀ o, ob_fit (C o)) (H : ∀ a11' a12' a13' a14' a15' : Nat → Int32, ob_all C a11' a12' a13' a14' a15' → post (hN, hf, ln, ll, rv, sl, aw, wl, ts, fr, fs, iu, a1, a2, a3, a4, a5, a6, a7, a8, a9, a10, a11', a12', a13', a14', a15')) : wpX_keepAll post (hN, hf, ln, ll, rv, sl, aw, wl, ts, fr, fs, iu, a1, a2, a3, a4, a5, a6, a7, a8, a9, a10, a11, a12, a13, a14, a15) :=
  ⟨9, kp_2 hC hfi H 8 0 a11 a12 a13 a14 a15 rfl (fun o h1 h2 => absurd h2 (by omega))⟩
theorem bb_37 {post : St1 → Prop} {J : Int32 → (Nat → Int32) → (Nat → Int32) → (Nat → Int32) → (Nat → Int32) → (Nat → Int32) → (Nat → Int32) → (Nat → Int32) → (Nat → Int32) → (Nat → Int32) → (Nat → Int32) → (Nat → Int32) → (Nat → Int32) → (Nat → Int32) → (Nat → Int32) → (Nat → Int32) → Prop} {o sz : Nat} (ho : o ≤ 8) (hs : a2 o = nI sz) (hs6 : sz ≤ 6) : ∀ (rem i : Nat) (a3 a4 a5 : Nat → Int32), i + rem = sz → (∀ t, t < i → a3 (6 * o + t) = a13 (6 * o + t) ∧ a4 (6 * o + t) = a14 (6 * o + t) ∧ a5 (6 * o + t) = a15 (6 * o + t)) → (∀ a3' a4' a5' : Nat → Int32, (∀ t, t < sz → a3' (6 * o + t) = a13 (6 * o + t) ∧ a4' (6 * o + t) = a14 (6 * o + t) ∧ a5' (6 * o + t) = a15 (6 * o + t)) → (∀ j, j < 6 * o ∨ 6 * o + 6 ≤ j → a3' j = a3 j ∧ a4' j = a4 j ∧ a5' j = a5 j) → J (nI (o + 1)) a1 a2 a3' a4' a5' a6 a7 a8 a9 a10 a11 a12 a13 a14 a15) → wX_bringBack_37 post J (nI o) hN hf ln ll rv sl aw wl ts fr fs iu (rem + 1) (nI (6 * o + i)) a1 a2 a3 a4 a5 a6 a7 a8 a9 a10 a11 a12 a13 a14 a15
  | 0, i, a3, a4, a5, hi, h0, H => by
    refine ⟨pk_in o 9 (by omega), ?_⟩
    rw [nI_clamp (show o < 2 ^ 31 by omega), hs, ob_ix]
    refine br_t (nI_le (by omega) (by omega)) (nm_r (nI_1 o) (H a3 a4 a5 (fun t ht => h0 t (by omega)) (fun _ _ => ⟨rfl, rfl, rfl⟩)))
  | rem + 1, i, a3, a4, a5, hi, h0, H => by
    have hin : vp_in (nI (6 * o + i)) 54 := pk_in (6 * o + i) 54 (by omega)
    have hc : (nI (6 * o + i)).toNatClampNeg = 6 * o + i := nI_clamp (by omega)
    refine ⟨pk_in o 9 (by omega), ?_⟩
    rw [nI_clamp (show o < 2 ^ 31 by omega), hs, ob_ix]
    refine br_f (nI_ge (by omega) (by omega)) ⟨hin, hin, nm_r (by rw [hc]) ⟨hin, hin, nm_r (by rw [hc]) ⟨hin, hin, nm_r (by rw [hc]) (nm_r (nI_1 _) ?_)⟩⟩⟩
    refine bb_37 ho hs hs6 rem (i + 1) _ _ _ (by omega) (fun t ht => ?_) (fun a3' a4' a5' g1 g2 => H a3' a4' a5' g1 (fun j hj => ?_))
    · by_cases c : t = i
      · rw [c, pk_us, pk_us, pk_us]
        exact ⟨rfl, rfl, rfl⟩
      · rw [pk_un (by omega), pk_un (by omega), pk_un (by omega)]
        exact h0 t (by omega)
    · have := g2 j hj
      rw [pk_un (by omega), pk_un (by omega), pk_un (by omega)] at this
      exact this
theorem bb_2 {post : St1 → Prop} {C : Nat → ob_Ob} (hC : ob_all C a11 a12 a13 a14 a15) (hfi : ∀ o, ob_fit (C o)) (H : ∀ a1' a2' a3' a4' a5' : Nat → Int32, ob_all C a1' a2' a3' a4' a5' → post (hN, hf, ln, ll, rv, sl, aw, wl, ts, fr, fs, iu, a1', a2', a3', a4', a5', a6, a7, a8, a9, a10, a11, a12, a13, a14, a15)) : ∀ (rem k : Nat) (a1 a2 a3 a4 a5 : Nat → Int32), k + rem = 8 → (∀ o, 1 ≤ o → o ≤ k → ob_at o (C o) a1 a2 a3 a4 a5) → wX_bringBack_2 post hN hf ln ll rv sl aw wl ts fr fs iu (rem + 1) (nI (k + 1)) a1 a2 a3 a4 a5 a6 a7 a8 a9 a10 a11 a12 a13 a14 a15
  | 0, k, a1, a2, a3, a4, a5, hk, h0 => by
    have : k = 8 := by omega
    subst this
    exact br_t (nI_lt (a := 8) (by omega) (by omega)) (H a1 a2 a3 a4 a5 h0)
  | rem + 1, k, a1, a2, a3, a4, a5, hk, h0 => by
    have hin : vp_in (nI (k + 1)) 9 := pk_in (k + 1) 9 (by omega)
    have hc : (nI (k + 1)).toNatClampNeg = k + 1 := nI_clamp (by omega)
    have hat := hC (k + 1) (by omega) (by omega)
    have h6 := (hfi (k + 1)).2.1
    refine br_f (nI_nlt (a := 8) (by omega) (by omega)) ⟨hin, hin, nm_r (by rw [hc]) ⟨hin, hin, nm_r (by rw [hc]) (nm_r (ob_6 _) ⟨_, bb_37 (o := k + 1) (by omega) (by rw [pk_us]; exact hat.2.1) h6 (C (k + 1)).2.length 0 _ _ _ (by omega) (fun t ht => absurd ht (by omega)) (fun a3' a4' a5' g1 g2 => ?_)⟩)⟩⟩
    refine bb_2 hC hfi H rem (k + 1) _ _ _ _ _ (by omega) (fun o h1 h2 => ?_)
    by_cases c : o = k + 1
    · subst c
      exact ob_copy hat rfl pk_us pk_us g1
    · refine ob_keep (hfi o).2.1 (h0 o h1 (by omega)) (pk_un c) (pk_un c) (fun i hi => g2 (6 * o + i) ?_)
      omega
theorem bb_all {post : St1 → Prop} {C : Nat → ob_Ob} (hC : ob_all C a11 a12 a13 a14 a15) (hfi : ∀ o, ob_fit (C o)) (H : ∀ a1' a2' a3' a4' a5' : Nat → Int32, ob_all C a1' a2' a3' a4' a5' → post (hN, hf, ln, ll, rv, sl, aw, wl, ts, fr, fs, iu, a1', a2', a3', a4', a5', a6, a7, a8, a9, a10, a11, a12, a13, a14, a15)) : wpX_bringBack post (hN, hf, ln, ll, rv, sl, aw, wl, ts, fr, fs, iu, a1, a2, a3, a4, a5, a6, a7, a8, a9, a10, a11, a12, a13, a14, a15) :=
  ⟨9, bb_2 hC hfi H 8 0 a1 a2 a3 a4 a5 rfl (fun o h1 h2 => absurd h2 (by omega))⟩
theorem aw_37 {post : Int32 → Prop} {o sz : Nat} {x c : ob_Ob} (ho : o ≤ 8) (hx : ob_fit x) (hc : ob_fit c) (ax : ob_at o x a1 a2 a3 a4 a5) (ac : ob_at o c a11 a12 a13 a14 a15) (hk : x.1 = c.1) (hl : x.2.length = sz) (hl2 : c.2.length = sz) (H1 : x = c → post 1) (H0 : ¬ x = c → post 0) : ∀ (rem i : Nat), i + rem = sz → x.2.take i = c.2.take i → wX_isAsWas_37 post (nI o) hN hf ln ll rv sl aw wl ts fr fs iu a1 a2 a3 a4 a5 a6 a7 a8 a9 a10 a11 a12 a13 a14 a15 (rem + 1) (nI (6 * o + i))
  | 0, i, hi, ht => by
    have h6 := hx.2.1
    refine ⟨pk_in o 9 (by omega), ?_⟩
    rw [nI_clamp (show o < 2 ^ 31 by omega), ax.2.1, hl, ob_ix]
    refine br_t (nI_le (by omega) (by omega)) (H1 (Prod.ext hk ?_))
    rw [List.take_of_length_le (by omega), List.take_of_length_le (by omega)] at ht
    exact ht
  | rem + 1, i, hi, ht => by
    have h6 := hx.2.1
    have hin : vp_in (nI (6 * o + i)) 54 := pk_in (6 * o + i) 54 (by omega)
    have hcl : (nI (6 * o + i)).toNatClampNeg = 6 * o + i := nI_clamp (by omega)
    have hci : (nI o).toNatClampNeg = o := nI_clamp (by omega)
    have hio : vp_in (nI o) 9 := pk_in o 9 (by omega)
    have gx : x.2[i]? = some x.2[i] := List.getElem?_eq_getElem (by omega)
    have gc : c.2[i]? = some c.2[i] := List.getElem?_eq_getElem (by omega)
    obtain ⟨x1, x2, x3⟩ := ax.2.2 i _ gx
    obtain ⟨c1, c2, c3⟩ := ac.2.2 i _ gc
    have fx := hx.2.2 _ (List.mem_of_getElem? gx)
    have fc := hc.2.2 _ (List.mem_of_getElem? gc)
    have vx : x.2[i].1 ≤ 3 := by
      by_cases z : x.1 = 2
      · have := (fx.2.2.1 z).1; omega
      · have := fx.2.2.2 z; omega
    have vc : c.2[i].1 ≤ 3 := by
      by_cases z : c.1 = 2
      · have := (fc.2.2.1 z).1; omega
      · have := fc.2.2.2 z; omega
    have ne : ¬ x.2[i] = c.2[i] → ¬ x = c := by
      intro z w
      subst w
      exact z rfl
    have next : x.2[i] = c.2[i] → wX_isAsWas_37 post (nI o) hN hf ln ll rv sl aw wl ts fr fs iu a1 a2 a3 a4 a5 a6 a7 a8 a9 a10 a11 a12 a13 a14 a15 (rem + 1) (nI (6 * o + i + 1)) := by
      intro z
      refine aw_37 ho hx hc ax ac hk hl hl2 H1 H0 rem (i + 1) (by omega) ?_
      rw [List.take_succ, List.take_succ, ht, gx, gc, z]
    have h1 := hx.1
    refine ⟨hio, ?_⟩
    rw [hci, ax.2.1, hl, ob_ix]
    refine br_f (nI_ge (by omega) (by omega)) ⟨hin, hin, ?_⟩
    rw [hcl, x1, x2, c1, c2]
    have bad : ¬ x = c → wX_isAsWas_86 post (wX_isAsWas_37 post (nI o) hN hf ln ll rv sl aw wl ts fr fs iu a1 a2 a3 a4 a5 a6 a7 a8 a9 a10 a11 a12 a13 a14 a15 (rem + 1)) (nI o) (nI (6 * o + i)) hN hf ln ll rv sl aw wl ts fr fs iu a1 a2 a3 a4 a5 a6 a7 a8 a9 a10 a11 a12 a13 a14 a15 := fun z => br_t rfl (H0 z)
    refine br_c (fun z1 => ⟨hin, hin, ?_⟩) (fun z => bad (ne (fun w => z (by rw [w]))))
    refine br_c (fun z2 => ?_) (fun z => bad (ne (fun w => z (by rw [w]))))
    have e2 : x.2[i].1 = c.2[i].1 := (nI_eq (by omega) (by omega)).mp z2
    refine br_f (by decide) ⟨hio, ?_⟩
    rw [hci, ax.1]
    by_cases k4 : x.1 = 4
    · refine br_t (by rw [k4]; rfl) ⟨hin, hin, ?_⟩
      rw [hcl, x3, c3]
      refine br_c (fun z3 => nm_r (nI_1 _) (next ?_)) (fun z => H0 (ne (fun w => z (by rw [w]))))
      have e3 : x.2[i].2.2 = c.2[i].2.2 := (nI_eq (by have := fx.1; omega) (by have := fc.1; omega)).mp z3
      exact Prod.ext e2 (Prod.ext z1 e3)
    · refine br_f (fun z => k4 ((nI_eq (by omega) (by omega)).mp z)) (nm_r (nI_1 _) (next ?_))
      exact Prod.ext e2 (Prod.ext z1 (by rw [fx.2.1 k4, fc.2.1 (by omega)]))
theorem aw_as {post : Int32 → Prop} {o : Nat} {x c : ob_Ob} (ho : o ≤ 8) (hx : ob_fit x) (hc : ob_fit c) (ax : ob_at o x a1 a2 a3 a4 a5) (ac : ob_at o c a11 a12 a13 a14 a15) (H1 : x = c → post 1) (H0 : ¬ x = c → post 0) : wpX_isAsWas post (hN, hf, ln, ll, rv, sl, aw, wl, ts, fr, fs, iu, a1, a2, a3, a4, a5, a6, a7, a8, a9, a10, a11, a12, a13, a14, a15) (nI o) := by
  have hci : (nI o).toNatClampNeg = o := nI_clamp (by omega)
  have hio : vp_in (nI o) 9 := pk_in o 9 (by omega)
  have k1 := hx.1
  have k2 := hc.1
  have l1 := hx.2.1
  have l2 := hc.2.1
  refine ⟨hio, hio, ?_⟩
  rw [hci, ax.1, ac.1]
  refine br_c (fun z1 => ⟨hio, hio, ?_⟩) (fun z => H0 (fun w => z (by rw [w])))
  have e1 : x.1 = c.1 := (nI_eq (by omega) (by omega)).mp z1
  rw [ax.2.1, ac.2.1]
  refine br_c (fun z2 => nm_r (ob_6 o) ⟨x.2.length + 1, ?_⟩) (fun z => H0 (fun w => z (by rw [w])))
  · have e2 : x.2.length = c.2.length := (nI_eq (by omega) (by omega)).mp z2
    exact aw_37 ho hx hc ax ac e1 rfl e2.symm H1 H0 x.2.length 0 (by omega) rfl
end
section
/-! changed -/
variable {hN hf ln ll rv sl aw wl ts fr fs iu : Int32} {a1 a2 a3 a4 a5 a6 a7 a8 a9 a10 a11 a12 a13 a14 a15 : Nat → Int32}
def ch_all (X C : Nat → ob_Ob) : Nat → Bool
  | 0 => true
  | k + 1 => ch_all X C k && decide (X (k + 1) = C (k + 1))
theorem ch_all_iff (X C : Nat → ob_Ob) : ∀ k, ch_all X C k = true ↔ ∀ o, 1 ≤ o → o ≤ k → X o = C o
  | 0 => ⟨fun _ o h1 h2 => absurd h2 (by omega), fun _ => rfl⟩
  | k + 1 => by
    rw [ch_all, Bool.and_eq_true, ch_all_iff X C k, decide_eq_true_iff]
    refine ⟨fun h o h1 h2 => ?_, fun h => ⟨fun o h1 h2 => h o h1 (by omega), h (k + 1) (by omega) (by omega)⟩⟩
    by_cases c : o = k + 1
    · rw [c]; exact h.2
    · exact h.1 o h1 (by omega)
def ch_v (b : Bool) : Int32 := if b = true then 0 else 1
/-- touched: those that are other ones than X has -/
def ch_tou (X C : Nat → ob_Ob) (k : Nat) (a6 : Nat → Int32) : Prop := ∀ o, 1 ≤ o → o ≤ k → a6 o = if X o = C o then 0 else 1
theorem ch_18 {post : Int32 → St1 → Prop} {X C : Nat → ob_Ob} (hX : ob_all X a1 a2 a3 a4 a5) (hC : ob_all C a11 a12 a13 a14 a15) (fX : ∀ o, ob_fit (X o)) (fC : ∀ o, ob_fit (C o)) (H : ∀ a1' a2' a3' a4' a5' a6' : Nat → Int32, ob_all C a1' a2' a3' a4' a5' → ch_tou X C 8 a6' → post (ch_v (ch_all X C 8)) (hN, hf, ln, ll, rv, sl, aw, wl, ts, fr, fs, iu, a1', a2', a3', a4', a5', a6', a7, a8, a9, a10, a11, a12, a13, a14, a15)) : ∀ (rem k : Nat) (a6 : Nat → Int32), k + rem = 8 → ch_tou X C k a6 → wX_changed_18 post hN hf ln ll rv sl aw wl ts fr fs iu (rem + 1) (ch_v (ch_all X C k)) (nI (k + 1)) a1 a2 a3 a4 a5 a6 a7 a8 a9 a10 a11 a12 a13 a14 a15
  | 0, k, a6, hk, h0 => by
    have : k = 8 := by omega
    subst this
    exact br_t (nI_lt (a := 8) (by omega) (by omega)) (bb_all hC fC (fun a1' a2' a3' a4' a5' g => H a1' a2' a3' a4' a5' a6 g h0))
  | rem + 1, k, a6, hk, h0 => by
    have hin : vp_in (nI (k + 1)) 9 := pk_in (k + 1) 9 (by omega)
    have hc : (nI (k + 1)).toNatClampNeg = k + 1 := nI_clamp (by omega)
    have tou : ∀ w : Int32, (w = if X (k + 1) = C (k + 1) then 0 else 1) → ch_tou X C (k + 1) (upd a6 (k + 1) w) := by
      intro w hw o h1 h2
      by_cases c : o = k + 1
      · rw [c, pk_us, hw]
      · rw [pk_un c]
        exact h0 o h1 (by omega)
    refine br_f (nI_nlt (a := 8) (by omega) (by omega)) (aw_as (x := X (k + 1)) (c := C (k + 1)) (by omega) (fX _) (fC _) (hX _ (by omega) (by omega)) (hC _ (by omega) (by omega)) (fun e => ?_) (fun e => ?_))
    · refine br_f (by decide) ⟨hin, nm_r (e' := upd a6 (k + 1) 0) (by rw [hc]; rfl) (br_f (by decide) (nm_r (nI_1 _) ?_))⟩
      have t := ch_18 hX hC fX fC H rem (k + 1) (upd a6 (k + 1) 0) (by omega) (tou 0 (by rw [if_pos e]))
      rw [ch_all, decide_eq_true e, Bool.and_true] at t
      exact t
    · refine br_t rfl ⟨hin, nm_r (e' := upd a6 (k + 1) 1) (by rw [hc]; rfl) (br_t rfl (nm_r (nI_1 _) ?_))⟩
      have t := ch_18 hX hC fX fC H rem (k + 1) (upd a6 (k + 1) 1) (by omega) (tou 1 (by rw [if_neg e]))
      rw [ch_all, decide_eq_false e, Bool.and_false] at t
      exact t
theorem ch_ged {post : Int32 → St1 → Prop} {h ln0 n : Nat} {pk : Bool} {rs : List (Nat × Nat)} {R : Nat → Nat → ob_Ob} {L : Nat → Nat} {C : Nat → ob_Ob} (hh : h ≤ 1) (hfi : fi_ok (fi_g h a7) ln0 rs pk n R L) (hu : ¬ iu = 0 → sg_at a9 0 (ru_ex rs)) (hC : ob_all C a1 a2 a3 a4 a5) (hok : ∀ o, ob_ok (C o)) (H : ∀ (sl' fr' fs' iu' : Int32) (a9' a1' a2' a3' a4' a5' a6' a11' a12' a13' a14' a15' : Nat → Int32), (¬ iu' = 0 → sg_at a9' 0 (ru_ex rs)) → ob_all C a1' a2' a3' a4' a5' → ch_tou (fi_prev R n) C 8 a6' → post (ch_v (ch_all (fi_prev R n) C 8)) (hN, nI h, ln, fi_bef L n, nI n, sl', aw, wl, ts, fr', fs', iu', a1', a2', a3', a4', a5', a6', a7, a8, a9', a10, a11', a12', a13', a14', a15')) : wpX_changed post (hN, nI h, ln, fi_bef L n, nI n, sl, aw, wl, ts, fr, fs, iu, a1, a2, a3, a4, a5, a6, a7, a8, a9, a10, a11, a12, a13, a14, a15) := by
  have fC : ∀ o, ob_fit (C o) := fun o => ob_okfit (hok o)
  have fX : ∀ o, ob_fit (fi_prev R n o) := by
    intro o
    cases n with
    | zero => exact ob_okfit ob_okno
    | succ j => exact ob_okfit (hfi.2.2.1 j o)
  unfold wpX_changed
  refine kp_all hC fC (fun a11' a12' a13' a14' a15' g0 => ?_)
  refine ld_load (j := n) (tv := 0) hh hfi (Nat.le_refl _) ?_ hu ?_ (fun sl' fr' fs' iu' a9' a1' a2' a3' a4' a5' a6' g1 g2 g3 => ?_)
  · cases n with
    | zero => exact Or.inl ⟨rfl, rfl⟩
    | succ m => exact Or.inr ⟨m, rfl, nI_pred m⟩
  · rw [if_pos rfl]
  · exact ⟨9, ch_18 g2 g0 fX fC (fun a1'' a2'' a3'' a4'' a5'' a6'' k1 k2 => H _ _ _ _ _ a1'' a2'' a3'' a4'' a5'' a6'' _ _ _ _ _ g1 k1 k2) 8 0 a6' rfl (fun o h1 h2 => absurd h2 (by omega))⟩
end
section
/-! looking at objects -/
variable {hN hf ln ll rv sl aw wl ts fr fs iu : Int32} {a1 a2 a3 a4 a5 a6 a7 a8 a9 a10 a11 a12 a13 a14 a15 : Nat → Int32}
def ob_val (x : ob_Ob) (i : Nat) : Int32 := match x.2[i]? with | some it => it.2.1 | none => 0
def ob_vk (x : ob_Ob) (i : Nat) : Int32 := match x.2[i]? with | some it => nI it.1 | none => -2
def ob_key (x : ob_Ob) (i : Nat) : Int32 := if x.1 = 4 then (match x.2[i]? with | some it => nI it.2.2 | none => -2) else -2
theorem ob_isobj (x : Int32) : (∃ o : Nat, 1 ≤ o ∧ o ≤ 8 ∧ x = nI o) ∨ x < 1 ∨ (¬ x < 1 ∧ 8 < x) := by
  by_cases c : x < 1
  · exact Or.inr (Or.inl c)
  · by_cases d : 8 < x
    · exact Or.inr (Or.inr ⟨c, d⟩)
    · refine Or.inl ?_
      have c' : ¬ x < 0 := by
        rw [Int32.lt_iff_toInt_lt] at *
        have e1 : (1 : Int32).toInt = 1 := rfl
        have e0 : (0 : Int32).toInt = 0 := rfl
        omega
      obtain ⟨j, hj, rfl⟩ := nI_of c'
      refine ⟨j, ?_, ?_, rfl⟩
      · rcases Nat.lt_or_ge j 1 with z | z
        · exact absurd (nI_lt (b := 1) z (by omega)) c
        · exact z
      · rcases Nat.lt_or_ge 8 j with z | z
        · exact absurd (nI_lt (a := 8) z (by omega)) d
        · exact z
/-- no object's number -/
def ob_bad (x : Int32) : Prop := x < 1 ∨ (¬ x < 1 ∧ 8 < x)
theorem vw_yes {post : Int32 → Prop} {o : Nat} (h1 : 1 ≤ o) (h2 : o ≤ 8) (H : post 1) : wpX_isObject post () (nI o) :=
  br_f (nI_nlt (b := 1) (by omega) (by omega)) (br_f (nI_nlt (a := 8) (by omega) (by omega)) H)
theorem vw_no {post : Int32 → Prop} {x : Int32} (h : ob_bad x) (H : post 0) : wpX_isObject post () x := by
  rcases h with h | h
  · exact br_t h H
  · exact br_f h.1 (br_t h.2 H)
theorem vw_kind {post : Int32 → Prop} {o : Nat} {C : Nat → ob_Ob} (hC : ob_all C a1 a2 a3 a4 a5) (h1 : 1 ≤ o) (h2 : o ≤ 8) (H : post (nI (C o).1)) : wpX_kind post (hN, hf, ln, ll, rv, sl, aw, wl, ts, fr, fs, iu, a1, a2, a3, a4, a5, a6, a7, a8, a9, a10, a11, a12, a13, a14, a15) (nI o) := by
  unfold wpX_kind
  refine vw_yes h1 h2 (br_f (by decide) ⟨pk_in o 9 (by omega), ?_⟩)
  rw [nI_clamp (by omega), (hC o h1 h2).1]
  exact H
theorem vw_kind0 {post : Int32 → Prop} {x : Int32} (h : ob_bad x) (H : post (-1)) : wpX_kind post (hN, hf, ln, ll, rv, sl, aw, wl, ts, fr, fs, iu, a1, a2, a3, a4, a5, a6, a7, a8, a9, a10, a11, a12, a13, a14, a15) x := by
  unfold wpX_kind
  exact vw_no h (br_t rfl H)
theorem vw_size {post : Int32 → Prop} {o : Nat} {C : Nat → ob_Ob} (hC : ob_all C a1 a2 a3 a4 a5) (h1 : 1 ≤ o) (h2 : o ≤ 8) (H : post (nI (C o).2.length)) : wpX_size post (hN, hf, ln, ll, rv, sl, aw, wl, ts, fr, fs, iu, a1, a2, a3, a4, a5, a6, a7, a8, a9, a10, a11, a12, a13, a14, a15) (nI o) := by
  unfold wpX_size
  refine vw_yes h1 h2 (br_f (by decide) ⟨pk_in o 9 (by omega), ?_⟩)
  rw [nI_clamp (by omega), (hC o h1 h2).2.1]
  exact H
theorem vw_size0 {post : Int32 → Prop} {x : Int32} (h : ob_bad x) (H : post (-1)) : wpX_size post (hN, hf, ln, ll, rv, sl, aw, wl, ts, fr, fs, iu, a1, a2, a3, a4, a5, a6, a7, a8, a9, a10, a11, a12, a13, a14, a15) x := by
  unfold wpX_size
  exact vw_no h (br_t rfl H)
theorem vw_has {post : Int32 → Prop} {o i : Nat} {C : Nat → ob_Ob} (hC : ob_all C a1 a2 a3 a4 a5) (hfi : ∀ o, ob_fit (C o)) (h1 : 1 ≤ o) (h2 : o ≤ 8) (hi : i ≤ 100) (H1 : i < (C o).2.length → post 1) (H0 : (C o).2.length ≤ i → post 0) : wpX_hasValue post (hN, hf, ln, ll, rv, sl, aw, wl, ts, fr, fs, iu, a1, a2, a3, a4, a5, a6, a7, a8, a9, a10, a11, a12, a13, a14, a15) (nI o) (nI i) := by
  have := (hfi o).2.1
  unfold wpX_hasValue
  refine vw_yes h1 h2 (br_f (by decide) (br_f (nI_pos (by omega)) ⟨pk_in o 9 (by omega), ?_⟩))
  rw [nI_clamp (by omega), (hC o h1 h2).2.1]
  exact pk_le (C o).2.length i H0 H1
theorem vw_value {post : Int32 → Prop} {o i : Nat} {C : Nat → ob_Ob} (hC : ob_all C a1 a2 a3 a4 a5) (hfi : ∀ o, ob_fit (C o)) (h1 : 1 ≤ o) (h2 : o ≤ 8) (hi : i ≤ 100) (H : post (ob_val (C o) i)) : wpX_value post (hN, hf, ln, ll, rv, sl, aw, wl, ts, fr, fs, iu, a1, a2, a3, a4, a5, a6, a7, a8, a9, a10, a11, a12, a13, a14, a15) (nI o) (nI i) := by
  have h6 := (hfi o).2.1
  unfold wpX_value
  unfold ob_val at H
  refine vw_has hC hfi h1 h2 hi (fun z => br_f (by decide) ⟨pk_in (6 * o + i) 54 (by omega) (ob_ix o i), ?_⟩) (fun z => br_t rfl ?_)
  · have g : (C o).2[i]? = some (C o).2[i] := List.getElem?_eq_getElem z
    rw [g] at H
    rw [ob_cl o i h2 (by omega), ((hC o h1 h2).2.2 i _ g).2.1]
    exact H
  · rw [List.getElem?_eq_none z] at H
    exact H
theorem vw_vk {post : Int32 → Prop} {o i : Nat} {C : Nat → ob_Ob} (hC : ob_all C a1 a2 a3 a4 a5) (hfi : ∀ o, ob_fit (C o)) (h1 : 1 ≤ o) (h2 : o ≤ 8) (hi : i ≤ 100) (H : post (ob_vk (C o) i)) : wpX_valueKind post (hN, hf, ln, ll, rv, sl, aw, wl, ts, fr, fs, iu, a1, a2, a3, a4, a5, a6, a7, a8, a9, a10, a11, a12, a13, a14, a15) (nI o) (nI i) := by
  have h6 := (hfi o).2.1
  unfold wpX_valueKind
  unfold ob_vk at H
  refine vw_yes h1 h2 (br_f (by decide) (vw_has hC hfi h1 h2 hi (fun z => br_f (by decide) ⟨pk_in (6 * o + i) 54 (by omega) (ob_ix o i), ?_⟩) (fun z => br_t rfl ?_)))
  · have g : (C o).2[i]? = some (C o).2[i] := List.getElem?_eq_getElem z
    rw [g] at H
    rw [ob_cl o i h2 (by omega), ((hC o h1 h2).2.2 i _ g).1]
    exact H
  · rw [List.getElem?_eq_none z] at H
    exact H
theorem vw_key {post : Int32 → Prop} {o i : Nat} {C : Nat → ob_Ob} (hC : ob_all C a1 a2 a3 a4 a5) (hfi : ∀ o, ob_fit (C o)) (h1 : 1 ≤ o) (h2 : o ≤ 8) (hi : i ≤ 100) (H : post (ob_key (C o) i)) : wpX_key post (hN, hf, ln, ll, rv, sl, aw, wl, ts, fr, fs, iu, a1, a2, a3, a4, a5, a6, a7, a8, a9, a10, a11, a12, a13, a14, a15) (nI o) (nI i) := by
  have h6 := (hfi o).2.1
  have h5 := (hfi o).1
  unfold wpX_key
  unfold ob_key at H
  refine vw_yes h1 h2 (br_f (by decide) ⟨pk_in o 9 (by omega), ?_⟩)
  rw [nI_clamp (show o < 2 ^ 31 by omega), (hC o h1 h2).1]
  by_cases c : (C o).1 = 4
  · rw [if_pos c] at H
    refine br_t (by rw [c]; rfl) (vw_has hC hfi h1 h2 hi (fun z => br_f (by decide) ⟨pk_in (6 * o + i) 54 (by omega) (ob_ix o i), ?_⟩) (fun z => br_t rfl ?_))
    · have g : (C o).2[i]? = some (C o).2[i] := List.getElem?_eq_getElem z
      rw [g] at H
      rw [ob_cl o i h2 (by omega), ((hC o h1 h2).2.2 i _ g).2.2]
      exact H
    · rw [List.getElem?_eq_none z] at H
      exact H
  · rw [if_neg c] at H
    exact br_f (fun z => c ((nI_eq (by omega) (by omega)).mp z)) H
/-- digest -/
def dg_row (o : Nat) (x : ob_Ob) : Nat → Nat → Int32 → Int32
  | 0, _, s => s
  | r + 1, i, s => dg_row o x r (i + 1) (s + ((8 * nI o + nI i) + 1) * ob_val x i)
def dg_sum (C : Nat → ob_Ob) : Nat → Nat → Int32 → Int32
  | 0, _, s => s
  | r + 1, o, s => dg_sum C r (o + 1) (dg_row o (C o) (C o).2.length 0 (s + 1000 * nI o * nI (C o).1))
theorem dg_27 {post : Int32 → Prop} {J : Int32 → Int32 → Prop} {o sz : Nat} {C : Nat → ob_Ob} (hC : ob_all C a1 a2 a3 a4 a5) (hfi : ∀ o, ob_fit (C o)) (h1 : 1 ≤ o) (h2 : o ≤ 8) (hs : (C o).2.length = sz) : ∀ (r i : Nat) (s : Int32), i + r = sz → J (dg_row o (C o) r i s) (nI (o + 1)) → wX_digest_27 post J (nI o) hN hf ln ll rv sl aw wl ts fr fs iu a1 a2 a3 a4 a5 a6 a7 a8 a9 a10 a11 a12 a13 a14 a15 (r + 1) s (nI i)
  | 0, i, s, hi, H => by
    have h6 := (hfi o).2.1
    refine ⟨pk_in o 9 (by omega), ?_⟩
    rw [nI_clamp (by omega), (hC o h1 h2).2.1]
    exact br_t (nI_le (by omega) (by omega)) (nm_r (nI_1 o) H)
  | r + 1, i, s, hi, H => by
    have h6 := (hfi o).2.1
    have g : (C o).2[i]? = some (C o).2[i] := List.getElem?_eq_getElem (by omega)
    refine ⟨pk_in o 9 (by omega), ?_⟩
    rw [nI_clamp (show o < 2 ^ 31 by omega), (hC o h1 h2).2.1]
    refine br_f (nI_ge (by omega) (by omega)) ⟨pk_in (6 * o + i) 54 (by omega) (ob_ix o i), nm_r (e' := s + ((8 * nI o + nI i) + 1) * ob_val (C o) i) ?_ (nm_r (nI_1 i) ?_)⟩
    · rw [ob_cl o i h2 (by omega), ((hC o h1 h2).2.2 i _ g).2.1, ob_val, g]
    · exact dg_27 hC hfi h1 h2 hs r (i + 1) _ (by omega) H
theorem dg_4 {post : Int32 → Prop} {C : Nat → ob_Ob} (hC : ob_all C a1 a2 a3 a4 a5) (hfi : ∀ o, ob_fit (C o)) : ∀ (r o : Nat) (s : Int32), o + r = 8 → post (dg_sum C r (o + 1) s) → wX_digest_4 post hN hf ln ll rv sl aw wl ts fr fs iu a1 a2 a3 a4 a5 a6 a7 a8 a9 a10 a11 a12 a13 a14 a15 (r + 1) s (nI (o + 1))
  | 0, o, s, ho, H => by
    have : o = 8 := by omega
    subst this
    exact br_t (nI_lt (a := 8) (by omega) (by omega)) H
  | r + 1, o, s, ho, H => by
    refine br_f (nI_nlt (a := 8) (by omega) (by omega)) ⟨pk_in (o + 1) 9 (by omega), nm_r (e' := s + 1000 * nI (o + 1) * nI (C (o + 1)).1) ?_ ⟨_, dg_27 hC hfi (o := o + 1) (by omega) (by omega) rfl (C (o + 1)).2.length 0 _ (by omega) ?_⟩⟩
    · rw [nI_clamp (by omega), (hC (o + 1) (by omega) (by omega)).1]
    · exact dg_4 hC hfi r (o + 1) _ (by omega) H
theorem vw_digest {post : Int32 → Prop} {C : Nat → ob_Ob} (hC : ob_all C a1 a2 a3 a4 a5) (hfi : ∀ o, ob_fit (C o)) (H : post (dg_sum C 8 1 0)) : wpX_digest post (hN, hf, ln, ll, rv, sl, aw, wl, ts, fr, fs, iu, a1, a2, a3, a4, a5, a6, a7, a8, a9, a10, a11, a12, a13, a14, a15) := ⟨9, dg_4 hC hfi 8 0 0 rfl H⟩
/-- resolve -/
def rs_go (C : Nat → ob_Ob) : Nat → Nat → Int32
  | 0, _ => -2
  | r + 1, t => if (C t).1 = 5 then rs_go C r (ob_val (C t) 0).toNatClampNeg else if (C t).1 = 0 then -2 else nI t
theorem ob_ok5 {x : ob_Ob} (h : ob_ok x) (h5 : x.1 = 5) : ∃ t : Nat, 1 ≤ t ∧ t ≤ 8 ∧ x.2 = [(2, nI t, 0)] := by
  rcases h with h | h | h | h | h | h
  · omega
  · omega
  · omega
  · omega
  · omega
  · obtain ⟨_, v, ⟨t, h1, h2, rfl⟩, h4⟩ := h
    exact ⟨t, h1, h2, h4⟩
theorem rs_13 {post : Int32 → Prop} {C : Nat → ob_Ob} (hC : ob_all C a1 a2 a3 a4 a5) (hok : ∀ o, ob_ok (C o)) : ∀ (r m t : Nat), m + r = 9 → 1 ≤ t → t ≤ 8 → post (rs_go C r t) → wX_resolve_13 post hN hf ln ll rv sl aw wl ts fr fs iu a1 a2 a3 a4 a5 a6 a7 a8 a9 a10 a11 a12 a13 a14 a15 (r + 1) (nI t) (nI m)
  | 0, m, t, hm, _, _, H => br_t (nI_lt (a := 8) (by omega) (by omega)) H
  | r + 1, m, t, hm, h1, h2, H => by
    have hf1 := (ob_okfit (hok t)).1
    have hin : vp_in (nI t) 9 := pk_in t 9 (by omega)
    refine br_f (nI_nlt (a := 8) (by omega) (by omega)) ⟨hin, ?_⟩
    rw [nI_clamp (show t < 2 ^ 31 by omega), (hC t h1 h2).1]
    rw [rs_go] at H
    by_cases c : (C t).1 = 5
    · obtain ⟨t', k1, k2, k3⟩ := ob_ok5 (hok t) c
      have ev : ob_val (C t) 0 = nI t' := by rw [ob_val, k3]; rfl
      have ga := ((hC t h1 h2).2.2 0 (2, nI t', 0) (by rw [k3]; rfl)).2.1
      rw [Nat.add_zero] at ga
      rw [if_pos c, ev, nI_clamp (by omega)] at H
      refine br_t (by rw [c]; rfl) ⟨pk_in (6 * t) 54 (by omega) (ob_6 t), nm_r (e' := nI t') (by rw [ob_6, nI_clamp (by omega)]; exact ga) (nm_r (nI_1 m) ?_)⟩
      exact rs_13 hC hok r (m + 1) t' (by omega) k1 k2 H
    · rw [if_neg c] at H
      refine br_f (fun z => c ((nI_eq (by omega) (by omega)).mp z)) ⟨hin, ?_⟩
      by_cases c0 : (C t).1 = 0
      · rw [if_pos c0] at H
        exact br_t (by rw [c0]; rfl) H
      · rw [if_neg c0] at H
        exact br_f (fun z => c0 ((nI_eq (by omega) (by omega)).mp z)) H
theorem vw_resolve {post : Int32 → Prop} {o : Nat} {C : Nat → ob_Ob} (hC : ob_all C a1 a2 a3 a4 a5) (hok : ∀ o, ob_ok (C o)) (h1 : 1 ≤ o) (h2 : o ≤ 8) (H : post (rs_go C 9 o)) : wpX_resolve post (hN, hf, ln, ll, rv, sl, aw, wl, ts, fr, fs, iu, a1, a2, a3, a4, a5, a6, a7, a8, a9, a10, a11, a12, a13, a14, a15) (nI o) := by
  unfold wpX_resolve
  exact vw_yes h1 h2 (br_f (by decide) ⟨10, rs_13 hC hok 9 0 o rfl h1 h2 H⟩)
/-- links -/
def lk_row (o : Nat) (x : ob_Ob) : Nat → Nat → Int32 → Int32
  | 0, _, s => s
  | r + 1, i, s => lk_row o x r (i + 1) (if ob_vk x i = 2 ∧ ob_val x i = nI o then s + 1 else s + 0)
def lk_sum (C : Nat → ob_Ob) (o : Nat) : Nat → Nat → Int32 → Int32
  | 0, _, s => s
  | r + 1, t, s => lk_sum C o r (t + 1) (lk_row o (C t) (C t).2.length 0 s)
theorem lk_25 {post : Int32 → Prop} {J : Int32 → Int32 → Prop} {o t sz : Nat} {C : Nat → ob_Ob} (hC : ob_all C a1 a2 a3 a4 a5) (hfi : ∀ o, ob_fit (C o)) (h1 : 1 ≤ t) (h2 : t ≤ 8) (hs : (C t).2.length = sz) : ∀ (r i : Nat) (s : Int32), i + r = sz → J (lk_row o (C t) r i s) (nI (t + 1)) → wX_links_25 post J (nI o) (nI t) hN hf ln ll rv sl aw wl ts fr fs iu a1 a2 a3 a4 a5 a6 a7 a8 a9 a10 a11 a12 a13 a14 a15 (r + 1) s (nI (6 * t + i))
  | 0, i, s, hi, H => by
    have h6 := (hfi t).2.1
    refine ⟨pk_in t 9 (by omega), ?_⟩
    rw [nI_clamp (by omega), (hC t h1 h2).2.1, ob_ix]
    exact br_t (nI_le (by omega) (by omega)) (nm_r (nI_1 t) H)
  | r + 1, i, s, hi, H => by
    have h6 := (hfi t).2.1
    have g : (C t).2[i]? = some (C t).2[i] := List.getElem?_eq_getElem (by omega)
    have hin : vp_in (nI (6 * t + i)) 54 := pk_in (6 * t + i) 54 (by omega)
    have gg := (hC t h1 h2).2.2 i _ g
    have ek : a4 (6 * t + i) = ob_vk (C t) i := by rw [gg.1, ob_vk, g]
    have ev : a3 (6 * t + i) = ob_val (C t) i := by rw [gg.2.1, ob_val, g]
    refine ⟨pk_in t 9 (by omega), ?_⟩
    rw [nI_clamp (show t < 2 ^ 31 by omega), (hC t h1 h2).2.1, ob_ix]
    refine br_f (nI_ge (by omega) (by omega)) ⟨hin, ?_⟩
    rw [nI_clamp (show 6 * t + i < 2 ^ 31 by omega), ek, ev]
    rw [lk_row] at H
    by_cases c : ob_vk (C t) i = 2
    · refine br_t c ⟨hin, ?_⟩
      by_cases d : ob_val (C t) i = nI o
      · rw [if_pos ⟨c, d⟩] at H
        exact br_t d (nm_e (nm_r (nI_1 _) (lk_25 hC hfi h1 h2 hs r (i + 1) _ (by omega) H)))
      · rw [if_neg (fun z => d z.2)] at H
        exact br_f d (nm_e (nm_r (nI_1 _) (lk_25 hC hfi h1 h2 hs r (i + 1) _ (by omega) H)))
    · rw [if_neg (fun z => c z.1)] at H
      exact br_f c (nm_e (nm_r (nI_1 _) (lk_25 hC hfi h1 h2 hs r (i + 1) _ (by omega) H)))
theorem lk_13 {post : Int32 → Prop} {o : Nat} {C : Nat → ob_Ob} (hC : ob_all C a1 a2 a3 a4 a5) (hfi : ∀ o, ob_fit (C o)) : ∀ (r t : Nat) (s : Int32), t + r = 8 → post (lk_sum C o r (t + 1) s) → wX_links_13 post (nI o) hN hf ln ll rv sl aw wl ts fr fs iu a1 a2 a3 a4 a5 a6 a7 a8 a9 a10 a11 a12 a13 a14 a15 (r + 1) s (nI (t + 1))
  | 0, t, s, ho, H => by
    have : t = 8 := by omega
    subst this
    exact br_t (nI_lt (a := 8) (by omega) (by omega)) H
  | r + 1, t, s, ho, H => by
    refine br_f (nI_nlt (a := 8) (by omega) (by omega)) (nm_r (ob_6 _) ⟨_, lk_25 hC hfi (t := t + 1) (by omega) (by omega) rfl (C (t + 1)).2.length 0 _ (by omega) ?_⟩)
    exact lk_13 hC hfi r (t + 1) _ (by omega) H
theorem vw_links {post : Int32 → Prop} {o : Nat} {C : Nat → ob_Ob} (hC : ob_all C a1 a2 a3 a4 a5) (hfi : ∀ o, ob_fit (C o)) (h1 : 1 ≤ o) (h2 : o ≤ 8) (H : post (lk_sum C o 8 1 0)) : wpX_links post (hN, hf, ln, ll, rv, sl, aw, wl, ts, fr, fs, iu, a1, a2, a3, a4, a5, a6, a7, a8, a9, a10, a11, a12, a13, a14, a15) (nI o) := by
  unfold wpX_links
  exact vw_yes h1 h2 (br_f (by decide) ⟨9, lk_13 hC hfi 8 0 0 rfl H⟩)
end
section
/-! the invariant of a state; look -/
variable {hN hf ln ll rv sl aw wl ts fr fs iu : Int32} {a1 a2 a3 a4 a5 a6 a7 a8 a9 a10 a11 a12 a13 a14 a15 : Nat → Int32}
/-- the heads: number k, at its place all that it tells; the other one is older -/
def hd_ok (k h ln0 : Nat) (v : Int32) (n : Nat) (a8 : Nat → Int32) : Prop :=
  1 ≤ k ∧ a8 (6 * ((k + 1) % 2)) = nI k ∧ a8 (6 * ((k + 1) % 2) + 1) = nI h ∧ a8 (6 * ((k + 1) % 2) + 2) = nI ln0 ∧ a8 (6 * ((k + 1) % 2) + 3) = v ∧ a8 (6 * ((k + 1) % 2) + 4) = nI n ∧ a8 (6 * ((k + 1) % 2) + 5) = nI k ∧ ∃ m : Nat, m < k ∧ a8 (6 * (k % 2) + 5) = nI m
/-- the file: n revisions, X the objects of the last one -/
def st_f (n : Nat) (X : Nat → ob_Ob) (K : Nat) (hN hf ln ll rv iu : Int32) (a7 a8 a9 : Nat → Int32) : Prop :=
  ∃ (R : Nat → Nat → ob_Ob) (L : Nat → Nat) (pk : Bool) (rs : List (Nat × Nat)) (h ln0 k : Nat), h ≤ 1 ∧ k ≤ K ∧ hN = nI k ∧ hf = nI h ∧ ln = nI ln0 ∧ ll = fi_bef L n ∧ rv = nI n ∧ X = fi_prev R n ∧ (¬ iu = 0 → sg_at a9 0 (ru_ex rs)) ∧ fi_ok (fi_g h a7) ln0 rs pk n R L ∧ hd_ok k h ln0 (fi_bef L n) n a8
def st_in (C : Nat → ob_Ob) (n : Nat) (X : Nat → ob_Ob) (K : Nat) (u : St1) : Prop := match u with
  | (hN, hf, ln, ll, rv, sl, aw, wl, ts, fr, fs, iu, a1, a2, a3, a4, a5, a6, a7, a8, a9, a10, a11, a12, a13, a14, a15) => st_f n X K hN hf ln ll rv iu a7 a8 a9 ∧ ob_all C a1 a2 a3 a4 a5 ∧ ∀ o, ob_ok (C o)
def st_tou (X C : Nat → ob_Ob) (u : St1) : Prop := match u with
  | (hN, hf, ln, ll, rv, sl, aw, wl, ts, fr, fs, iu, a1, a2, a3, a4, a5, a6, a7, a8, a9, a10, a11, a12, a13, a14, a15) => ch_tou X C 8 a6
theorem st_changed {post : Int32 → St1 → Prop} {C X : Nat → ob_Ob} {n K : Nat} {u : St1} (hs : st_in C n X K u) (H : ∀ u', st_in C n X K u' → st_tou X C u' → post (ch_v (ch_all X C 8)) u') : wpX_changed post u := by
  obtain ⟨hN, hf, ln, ll, rv, sl, aw, wl, ts, fr, fs, iu, a1, a2, a3, a4, a5, a6, a7, a8, a9, a10, a11, a12, a13, a14, a15⟩ := u
  obtain ⟨⟨R, L, pk, rs, h, ln0, k, h1, h2, rfl, rfl, rfl, rfl, rfl, rfl, h3, h4, h5⟩, hC, hok⟩ := hs
  exact ch_ged h1 h4 h3 hC hok (fun sl' fr' fs' iu' a9' a1' a2' a3' a4' a5' a6' a11' a12' a13' a14' a15' g1 g2 g3 => H _ ⟨⟨R, L, pk, rs, h, ln0, k, h1, h2, rfl, rfl, rfl, rfl, rfl, rfl, g1, h4, h5⟩, g2, hok⟩ g3)
def lo_row (x : ob_Ob) : Nat → Nat → Int32 → Int32
  | 0, _, s => s
  | r + 1, i, s => lo_row x r (i + 1) (31 * (31 * (31 * s + ob_val x i) + ob_vk x i) + ob_key x i)
def lo_sum (C : Nat → ob_Ob) : Nat → Nat → Int32 → Int32
  | 0, _, s => s
  | r + 1, o, s => lo_sum C r (o + 1) (lo_row (C o) 6 0 (31 * (31 * (31 * (31 * s + nI (C o).1) + nI (C o).2.length) + rs_go C 9 o) + lk_sum C o 8 1 0))
def lo_v (C : Nat → ob_Ob) (n : Nat) (X : Nat → ob_Ob) : Int32 := lo_sum C 8 1 (31 * (31 * dg_sum C 8 1 0 + nI n) + ch_v (ch_all X C 8))
theorem lo_77 {post : Int32 → St1 → Prop} {J : Int32 → Int32 → Prop} {o : Nat} {C : Nat → ob_Ob} (hC : ob_all C a1 a2 a3 a4 a5) (hfi : ∀ o, ob_fit (C o)) (h1 : 1 ≤ o) (h2 : o ≤ 8) : ∀ (r i : Nat) (s : Int32), i + r = 6 → J (lo_row (C o) r i s) (nI (o + 1)) → wL_look_77 post J (nI o) hN hf ln ll rv sl aw wl ts fr fs iu a1 a2 a3 a4 a5 a6 a7 a8 a9 a10 a11 a12 a13 a14 a15 (r + 1) s (nI i)
  | 0, i, s, hi, H => br_t (nI_le (a := 6) (by omega) (by omega)) (nm_r (nI_1 o) H)
  | r + 1, i, s, hi, H => br_f (nI_ge (b := 6) (by omega) (by omega)) (vw_value hC hfi h1 h2 (by omega) (nm_e (vw_vk hC hfi h1 h2 (by omega) (nm_e (vw_key hC hfi h1 h2 (by omega) (nm_e (nm_r (nI_1 i) (lo_77 hC hfi h1 h2 r (i + 1) _ (by omega) H))))))))
theorem lo_25 {post : Int32 → St1 → Prop} {C : Nat → ob_Ob} (hC : ob_all C a1 a2 a3 a4 a5) (hok : ∀ o, ob_ok (C o)) : ∀ (r o : Nat) (s : Int32), o + r = 8 → post (lo_sum C r (o + 1) s) (hN, hf, ln, ll, rv, sl, aw, wl, ts, fr, fs, iu, a1, a2, a3, a4, a5, a6, a7, a8, a9, a10, a11, a12, a13, a14, a15) → wL_look_25 post hN hf ln ll rv sl aw wl ts fr fs iu a1 a2 a3 a4 a5 a6 a7 a8 a9 a10 a11 a12 a13 a14 a15 (r + 1) s (nI (o + 1))
  | 0, o, s, ho, H => by
    have : o = 8 := by omega
    subst this
    exact br_t (nI_le (a := 9) (by omega) (by omega)) H
  | r + 1, o, s, ho, H => by
    have hfi : ∀ o, ob_fit (C o) := fun o => ob_okfit (hok o)
    have k1 : 1 ≤ o + 1 := by omega
    have k2 : o + 1 ≤ 8 := by omega
    refine br_f (nI_ge (b := 9) (by omega) (by omega)) (vw_kind hC k1 k2 (nm_e (vw_size hC k1 k2 (nm_e (vw_resolve hC hok k1 k2 (nm_e (vw_links hC hfi k1 k2 (nm_e ⟨7, lo_77 hC hfi k1 k2 6 0 _ rfl ?_⟩))))))))
    exact lo_25 hC hok r (o + 1) _ (by omega) H
theorem st_look {post : Int32 → St1 → Prop} {C X : Nat → ob_Ob} {n K : Nat} {u : St1} (hs : st_in C n X K u) (H : ∀ u', st_in C n X K u' → st_tou X C u' → post (lo_v C n X) u') : wpL_look post u := by
  have hs0 := hs
  obtain ⟨hN, hf, ln, ll, rv, sl, aw, wl, ts, fr, fs, iu, a1, a2, a3, a4, a5, a6, a7, a8, a9, a10, a11, a12, a13, a14, a15⟩ := u
  obtain ⟨hF, hC, hok⟩ := hs
  have erv : rv = nI n := by
    obtain ⟨R, L, pk, rs, h, ln0, k, h1, h2, _, _, _, _, h3, _⟩ := hF
    exact h3
  have hfi : ∀ o, ob_fit (C o) := fun o => ob_okfit (hok o)
  unfold wpL_look
  refine vw_digest hC hfi ?_
  show ∀ x : Int32, x = 31 * dg_sum C 8 1 0 + rv → _
  refine nm_r (e' := 31 * dg_sum C 8 1 0 + nI n) (by rw [erv]) (st_changed hs0 (fun u' h1 h2 => ?_))
  obtain ⟨hN', hf', ln', ll', rv', sl', aw', wl', ts', fr', fs', iu', a1', a2', a3', a4', a5', a6', a7', a8', a9', a10', a11', a12', a13', a14', a15'⟩ := u'
  have hC' := h1.2.1
  exact nm_e ⟨9, lo_25 hC' hok 8 0 _ rfl (H _ h1 h2)⟩
end
section
/-! changing objects: setNumber, setLink, begin, append, push, pop, remove -/
variable {hN hf ln ll rv sl aw wl ts fr fs iu : Int32} {a1 a2 a3 a4 a5 a6 a7 a8 a9 a10 a11 a12 a13 a14 a15 : Nat → Int32}
def ob_set (C : Nat → ob_Ob) (o : Nat) (y : ob_Ob) : Nat → ob_Ob := fun j => if j = o then y else C j
theorem ob_set_s (C : Nat → ob_Ob) (o : Nat) (y : ob_Ob) : ob_set C o y o = y := if_pos rfl
theorem ob_set_n {C : Nat → ob_Ob} {o j : Nat} {y : ob_Ob} (h : j ≠ o) : ob_set C o y j = C j := if_neg h
theorem st_set {C X : Nat → ob_Ob} {n K o : Nat} {y : ob_Ob} {a1' a2' a3' a4' a5' a6' : Nat → Int32} (hs : st_in C n X K (hN, hf, ln, ll, rv, sl, aw, wl, ts, fr, fs, iu, a1, a2, a3, a4, a5, a6, a7, a8, a9, a10, a11, a12, a13, a14, a15)) (hc : ob_chg o a1 a2 a3 a4 a5 a6 a1' a2' a3' a4' a5' a6') (hx : ob_at o y a1' a2' a3' a4' a5') (hy : ob_ok y) : st_in (ob_set C o y) n X K (hN, hf, ln, ll, rv, sl, aw, wl, ts, fr, fs, iu, a1', a2', a3', a4', a5', a6', a7, a8, a9, a10, a11, a12, a13, a14, a15) := by
  obtain ⟨h1, h2, h3⟩ := hs
  refine ⟨h1, fun j j1 j2 => ?_, fun j => ?_⟩
  · by_cases c : j = o
    · subst c
      rw [ob_set_s]
      exact hx
    · rw [ob_set_n c]
      exact ob_other (ob_okfit (h3 j)).2.1 c (h2 j j1 j2) hc
  · by_cases c : j = o
    · subst c
      rw [ob_set_s]
      exact hy
    · rw [ob_set_n c]
      exact h3 j
theorem ob_at0 {o k : Nat} : ob_at o (k, []) (upd a1 o (nI k)) (upd a2 o 0) a3 a4 a5 := ⟨pk_us, pk_us, fun i it hi => by simp at hi⟩
theorem m_setNumber {post : Int32 → St1 → Prop} {C X : Nat → ob_Ob} {n K : Nat} {x z : Int32} {u : St1} (hs : st_in C n X K u) (H0 : ob_bad x → post (-1) u) (H1 : ∀ o u', 1 ≤ o → o ≤ 8 → x = nI o → st_in (ob_set C o (1, [(0, z, 0)])) n X K u' → post (nI (C o).1) u') : wpX_setNumber post u x z := by
  obtain ⟨hN, hf, ln, ll, rv, sl, aw, wl, ts, fr, fs, iu, a1, a2, a3, a4, a5, a6, a7, a8, a9, a10, a11, a12, a13, a14, a15⟩ := u
  unfold wpX_setNumber
  rcases ob_isobj x with ⟨o, o1, o2, rfl⟩ | hb
  · refine vw_yes o1 o2 (br_f (by decide) (ob_become o2 (ob_add (s := 0) o2 pk_us (by omega) ?_)))
    rw [(hs.2.1 o o1 o2).1]
    refine H1 o _ o1 o2 rfl (st_set hs (ob_chg_t ob_chg_become (ob_chg_add (by omega) (fun j hj => pk_un hj))) ?_ (Or.inr (Or.inl ⟨rfl, z, rfl⟩)))
    exact ob_push (dn := []) (it := (0, z, 0)) (by simp) (ob_at0 (k := 1)) (fun j hj => pk_un hj) pk_us
  · exact vw_no hb (br_t rfl (H0 hb))
theorem m_setLink {post : Int32 → St1 → Prop} {C X : Nat → ob_Ob} {n K : Nat} {x y : Int32} {u : St1} (hs : st_in C n X K u) (H0 : ob_bad x ∨ ob_bad y → post (-1) u) (H1 : ∀ o u', 1 ≤ o → o ≤ 8 → x = nI o → st_in (ob_set C o (5, [(2, y, 0)])) n X K u' → post (nI (C o).1) u') : wpX_setLink post u x y := by
  obtain ⟨hN, hf, ln, ll, rv, sl, aw, wl, ts, fr, fs, iu, a1, a2, a3, a4, a5, a6, a7, a8, a9, a10, a11, a12, a13, a14, a15⟩ := u
  unfold wpX_setLink
  rcases ob_isobj x with ⟨o, o1, o2, rfl⟩ | hb
  · refine vw_yes o1 o2 (br_f (by decide) ?_)
    rcases ob_isobj y with ⟨t, t1, t2, rfl⟩ | hb
    · refine vw_yes t1 t2 (br_f (by decide) (ob_become o2 (ob_add (s := 0) o2 pk_us (by omega) ?_)))
      rw [(hs.2.1 o o1 o2).1]
      refine H1 o _ o1 o2 rfl (st_set hs (ob_chg_t ob_chg_become (ob_chg_add (by omega) (fun j hj => pk_un hj))) ?_ (Or.inr (Or.inr (Or.inr (Or.inr (Or.inr ⟨rfl, nI t, ⟨t, t1, t2, rfl⟩, rfl⟩))))))
      exact ob_push (dn := []) (it := (2, nI t, 0)) (by simp) (ob_at0 (k := 5)) (fun j hj => pk_un hj) pk_us
    · exact vw_no hb (br_t rfl (H0 (Or.inr hb)))
  · exact vw_no hb (br_t rfl (H0 (Or.inl hb)))
theorem m_remove {post : Int32 → St1 → Prop} {C X : Nat → ob_Ob} {n K : Nat} {x : Int32} {u : St1} (hs : st_in C n X K u) (H0 : ob_bad x → post (-1) u) (H1 : ∀ o u', 1 ≤ o → o ≤ 8 → x = nI o → st_in (ob_set C o ob_no) n X K u' → post (nI (C o).1) u') : wpX_remove post u x := by
  obtain ⟨hN, hf, ln, ll, rv, sl, aw, wl, ts, fr, fs, iu, a1, a2, a3, a4, a5, a6, a7, a8, a9, a10, a11, a12, a13, a14, a15⟩ := u
  unfold wpX_remove
  rcases ob_isobj x with ⟨o, o1, o2, rfl⟩ | hb
  · refine vw_yes o1 o2 (br_f (by decide) (ob_become o2 ?_))
    rw [(hs.2.1 o o1 o2).1]
    exact H1 o _ o1 o2 rfl (st_set hs ob_chg_become (ob_at0 (k := 0)) ob_okno)
  · exact vw_no hb (br_t rfl (H0 hb))
theorem m_begin {post : Int32 → St1 → Prop} {C X : Nat → ob_Ob} {n K : Nat} {x y : Int32} {u : St1} (hs : st_in C n X K u) (H0 : post (-1) u) (H1 : ∀ o k u', 1 ≤ o → o ≤ 8 → x = nI o → k ≤ 4 → y = nI k → st_in (ob_set C o (k, [])) n X K u' → post (nI (C o).1) u') : wpX_begin post u x y := by
  obtain ⟨hN, hf, ln, ll, rv, sl, aw, wl, ts, fr, fs, iu, a1, a2, a3, a4, a5, a6, a7, a8, a9, a10, a11, a12, a13, a14, a15⟩ := u
  unfold wpX_begin
  rcases ob_isobj x with ⟨o, o1, o2, rfl⟩ | hb
  · refine vw_yes o1 o2 (br_f (by decide) (br_c (fun _ => H0) (fun z1 => br_c (fun _ => H0) (fun z2 => ?_))))
    have hk : ∃ k : Nat, 2 ≤ k ∧ k ≤ 4 ∧ y = nI k := by
      have c' : ¬ y < 0 := by
        rw [Int32.lt_iff_toInt_lt] at *
        have e1 : (2 : Int32).toInt = 2 := rfl
        have e0 : (0 : Int32).toInt = 0 := rfl
        omega
      obtain ⟨j, hj, rfl⟩ := nI_of c'
      refine ⟨j, ?_, ?_, rfl⟩
      · rcases Nat.lt_or_ge j 2 with z | z
        · exact absurd (nI_lt (b := 2) z (by omega)) z1
        · exact z
      · rcases Nat.lt_or_ge 4 j with z | z
        · exact absurd (nI_lt (a := 4) z (by omega)) z2
        · exact z
    obtain ⟨k, k1, k2, rfl⟩ := hk
    refine ob_become o2 ?_
    rw [(hs.2.1 o o1 o2).1]
    refine H1 o k _ o1 o2 rfl k2 rfl (st_set hs ob_chg_become ob_at0 ?_)
    have : k = 2 ∨ k = 3 ∨ k = 4 := by omega
    rcases this with rfl | rfl | rfl
    · exact Or.inr (Or.inr (Or.inl ⟨rfl, by simp, by simp⟩))
    · exact Or.inr (Or.inr (Or.inr (Or.inl ⟨rfl, by simp, by simp⟩)))
    · exact Or.inr (Or.inr (Or.inr (Or.inr (Or.inl ⟨rfl, by simp, by simp, by simp⟩))))
  · exact vw_no hb (br_t rfl H0)
theorem ob_ok2 {x : ob_Ob} (h : ob_ok x) (hk : x.1 = 2) : x.2.length ≤ 6 ∧ ∀ it ∈ x.2, it.1 = 3 ∧ it.2.2 = 0 ∧ ∃ b : Nat, b < 256 ∧ it.2.1 = nI b := by
  rcases h with h | h | h | h | h | h
  · omega
  · omega
  · exact h.2
  · omega
  · omega
  · omega
theorem ob_ok3 {x : ob_Ob} (h : ob_ok x) (hk : x.1 = 3) : x.2.length ≤ 4 ∧ ∀ it ∈ x.2, it.2.2 = 0 ∧ ob_item it.1 it.2.1 := by
  rcases h with h | h | h | h | h | h
  · omega
  · omega
  · omega
  · exact h.2
  · omega
  · omega
theorem ob_ok4 {x : ob_Ob} (h : ob_ok x) (hk : x.1 = 4) : x.2.length ≤ 3 ∧ (∀ it ∈ x.2, it.2.2 < 32 ∧ (it.1 = 0 ∨ it.1 = 2 ∧ ob_link it.2.1)) ∧ x.2.Pairwise (fun a b => a.2.2 < b.2.2) := by
  rcases h with h | h | h | h | h | h
  · omega
  · omega
  · omega
  · omega
  · exact h.2
  · omega
theorem ob_kindne {k c : Nat} (hk : k ≤ 5) (hc : c ≤ 5) (h : ¬ k = c) : ¬ nI k = nI c := fun z => h ((nI_eq (by omega) (by omega)).mp z)
theorem m_append {post : Int32 → St1 → Prop} {C X : Nat → ob_Ob} {n K : Nat} {x z : Int32} {u : St1} (hs : st_in C n X K u) (H0 : ob_bad x ∨ z < 0 ∨ ¬ z ≤ 255 → post (-1) u) (H2 : ∀ o, 1 ≤ o → o ≤ 8 → x = nI o → ¬ z < 0 → z ≤ 255 → ¬ (C o).1 = 2 → post (-2) u) (H3 : ∀ o, 1 ≤ o → o ≤ 8 → x = nI o → ¬ z < 0 → z ≤ 255 → (C o).1 = 2 → (C o).2.length = 6 → post (-3) u) (H1 : ∀ o u', 1 ≤ o → o ≤ 8 → x = nI o → ¬ z < 0 → z ≤ 255 → (C o).1 = 2 → (C o).2.length < 6 → st_in (ob_set C o (2, (C o).2 ++ [(3, z, 0)])) n X K u' → post (nI ((C o).2.length + 1)) u') : wpX_append post u x z := by
  obtain ⟨hN, hf, ln, ll, rv, sl, aw, wl, ts, fr, fs, iu, a1, a2, a3, a4, a5, a6, a7, a8, a9, a10, a11, a12, a13, a14, a15⟩ := u
  unfold wpX_append
  rcases ob_isobj x with ⟨o, o1, o2, rfl⟩ | hb
  · have hat := hs.2.1 o o1 o2
    have hok := hs.2.2 o
    have hf1 := (ob_okfit hok).1
    have hin : vp_in (nI o) 9 := pk_in o 9 (by omega)
    refine vw_yes o1 o2 (br_f (by decide) (br_c (fun z1 => H0 (Or.inr (Or.inl z1))) (fun z1 => br_c (fun z2 => ⟨hin, ?_⟩) (fun z2 => H0 (Or.inr (Or.inr z2))))))
    rw [nI_clamp (by omega), hat.1]
    by_cases c : (C o).1 = 2
    · have h2 := ob_ok2 hok c
      refine br_t (by rw [c]; rfl) ⟨hin, ?_⟩
      rw [hat.2.1]
      by_cases d : (C o).2.length < 6
      · obtain ⟨b, hb1, hb2⟩ := nI_of2 (M := 255) (n := 255) rfl z1 z2
        refine br_t (nI_lt (b := 6) d (by omega)) (ob_add o2 hat.2.1 d ?_)
        refine H1 o _ o1 o2 rfl z1 z2 c d (st_set hs (ob_chg_add d (fun j hj => pk_un hj)) ?_ (Or.inr (Or.inr (Or.inl ⟨rfl, by simp; omega, fun it hi => ?_⟩))))
        · refine ob_push (it := (3, z, 0)) d ?_ (fun j hj => pk_un hj) pk_us
          rw [← c]
          exact hat
        · rcases List.mem_append.mp hi with w | w
          · exact h2.2 it w
          · simp only [List.mem_cons, List.not_mem_nil, or_false] at w
            rw [w]
            exact ⟨rfl, rfl, b, by omega, hb2⟩
      · exact br_f (nI_nlt (b := 6) (by omega) (by omega)) (H3 o o1 o2 rfl z1 z2 c (by omega))
    · exact br_f (ob_kindne (c := 2) hf1 (by omega) c) (H2 o o1 o2 rfl z1 z2 c)
  · exact vw_no hb (br_t rfl (H0 (Or.inl hb)))
theorem m_pop {post : Int32 → St1 → Prop} {C X : Nat → ob_Ob} {n K : Nat} {x : Int32} {u : St1} (hs : st_in C n X K u) (H0 : ob_bad x → post (-1) u) (H2 : ∀ o, 1 ≤ o → o ≤ 8 → x = nI o → ¬ (2 ≤ (C o).1 ∧ (C o).1 ≤ 4 ∧ 0 < (C o).2.length) → post (-2) u) (H1 : ∀ o u', 1 ≤ o → o ≤ 8 → x = nI o → 2 ≤ (C o).1 → (C o).1 ≤ 4 → 0 < (C o).2.length → st_in (ob_set C o ((C o).1, (C o).2.dropLast)) n X K u' → post (nI ((C o).2.length - 1)) u') : wpX_pop post u x := by
  obtain ⟨hN, hf, ln, ll, rv, sl, aw, wl, ts, fr, fs, iu, a1, a2, a3, a4, a5, a6, a7, a8, a9, a10, a11, a12, a13, a14, a15⟩ := u
  unfold wpX_pop
  rcases ob_isobj x with ⟨o, o1, o2, rfl⟩ | hb
  · have hat := hs.2.1 o o1 o2
    have hok := hs.2.2 o
    have hf1 := (ob_okfit hok).1
    have hf2 := (ob_okfit hok).2.1
    have hin : vp_in (nI o) 9 := pk_in o 9 (by omega)
    have hcl : (nI o).toNatClampNeg = o := nI_clamp (by omega)
    refine vw_yes o1 o2 (br_f (by decide) ⟨hin, ?_⟩)
    rw [hcl, hat.1]
    refine pk_lt (C o).1 2 (fun z => H2 o o1 o2 rfl (by omega)) (fun z1 => ⟨hin, pk_lt 4 (C o).1 (fun z => H2 o o1 o2 rfl (by omega)) (fun z2 => ⟨hin, ?_⟩)⟩)
    rw [hat.2.1]
    refine pk_eq (C o).2.length 0 (fun z => H2 o o1 o2 rfl (by omega)) (fun z3 => ⟨hin, hin, nm_r (e' := upd a2 o (nI ((C o).2.length - 1))) (by rw [← pk_sub (a := (C o).2.length) (b := 1) (by omega)]; rfl) ⟨hin, nm_e ⟨hin, ?_⟩⟩⟩)
    rw [pk_us]
    refine H1 o _ o1 o2 rfl (by omega) (by omega) (by omega) (st_set hs ⟨fun j hj => ⟨rfl, pk_un hj, pk_un hj⟩, fun j hj => ⟨rfl, rfl, rfl⟩⟩ ⟨hat.1, ?_, fun i it hi => hat.2.2 i it ?_⟩ ?_)
    · rw [pk_us, List.length_dropLast]
    · rw [List.getElem?_dropLast] at hi
      by_cases c : i < (C o).2.length - 1
      · rw [if_pos c] at hi; exact hi
      · rw [if_neg c] at hi; simp at hi
    · have mem : ∀ it ∈ (C o).2.dropLast, it ∈ (C o).2 := fun it hi => (List.dropLast_sublist _).subset hi
      have hk : (C o).1 = 2 ∨ (C o).1 = 3 ∨ (C o).1 = 4 := by omega
      rcases hk with k | k | k
      · have := ob_ok2 hok k
        exact Or.inr (Or.inr (Or.inl ⟨k, by simp; omega, fun it hi => this.2 it (mem it hi)⟩))
      · have := ob_ok3 hok k
        exact Or.inr (Or.inr (Or.inr (Or.inl ⟨k, by simp; omega, fun it hi => this.2 it (mem it hi)⟩)))
      · have := ob_ok4 hok k
        exact Or.inr (Or.inr (Or.inr (Or.inr (Or.inl ⟨k, by simp; omega, fun it hi => this.2.1 it (mem it hi), this.2.2.sublist (List.dropLast_sublist _)⟩))))
  · exact vw_no hb (br_t rfl (H0 hb))
end
section
/-! push and put -/
variable {hN hf ln ll rv sl aw wl ts fr fs iu : Int32} {a1 a2 a3 a4 a5 a6 a7 a8 a9 a10 a11 a12 a13 a14 a15 : Nat → Int32}
theorem vw_item {post : Int32 → Prop} {k : Nat} {z : Int32} (hk : k ≤ 2) (H1 : ob_item k z → post 1) (H0 : ¬ ob_item k z → post 0) : wpX_isItem post () (nI k) z := by
  have : k = 0 ∨ k = 1 ∨ k = 2 := by omega
  rcases this with rfl | rfl | rfl
  · exact br_f (by decide) (br_t rfl (H1 (Or.inl rfl)))
  · refine br_t rfl (br_c (fun z1 => H0 (fun w => ?_)) (fun z1 => br_c (fun z2 => H0 (fun w => ?_)) (fun z2 => H1 (Or.inr (Or.inl ⟨rfl, ?_⟩)))))
    · rcases w with w | ⟨_, b, hb, rfl⟩ | w
      · omega
      · exact nI_pos (by omega) z1
      · omega
    · rcases w with w | ⟨_, b, hb, rfl⟩ | w
      · omega
      · exact nI_nlt (a := 63) (by omega) (by omega) z2
      · omega
    · obtain ⟨b, hb, rfl⟩ := nI_of z1
      refine ⟨b, ?_, rfl⟩
      rcases Nat.lt_or_ge b 64 with w | w
      · exact w
      · exact absurd (nI_lt (a := 63) (by omega) (by omega)) z2
  · refine br_f (by decide) (br_f (by decide) (br_t rfl ?_))
    rcases ob_isobj z with ⟨t, t1, t2, rfl⟩ | hb
    · exact vw_yes t1 t2 (br_f (by decide) (H1 (Or.inr (Or.inr ⟨rfl, t, t1, t2, rfl⟩))))
    · refine vw_no hb (br_t rfl (H0 (fun w => ?_)))
      rcases w with w | ⟨w, _⟩ | ⟨_, t, t1, t2, rfl⟩
      · omega
      · omega
      · rcases hb with b | b
        · exact nI_nlt (b := 1) (by omega) (by omega) b
        · exact nI_nlt (a := 8) (by omega) (by omega) b.2
def pu_fits (x y z : Int32) : Prop := ∃ o k : Nat, 1 ≤ o ∧ o ≤ 8 ∧ x = nI o ∧ k ≤ 2 ∧ y = nI k ∧ ob_item k z
theorem ob_notbad {x : Int32} {o : Nat} (h1 : 1 ≤ o) (h2 : o ≤ 8) (hx : x = nI o) (hb : ob_bad x) : False := by
  subst hx
  rcases hb with b | b
  · exact nI_nlt (b := 1) (by omega) (by omega) b
  · exact nI_nlt (a := 8) (by omega) (by omega) b.2
theorem m_push {post : Int32 → St1 → Prop} {C X : Nat → ob_Ob} {n K : Nat} {x y z : Int32} {u : St1} (hs : st_in C n X K u) (H0 : ¬ pu_fits x y z → post (-1) u) (H2 : ∀ o, 1 ≤ o → o ≤ 8 → x = nI o → pu_fits x y z → ¬ (C o).1 = 3 → post (-2) u) (H3 : ∀ o, 1 ≤ o → o ≤ 8 → x = nI o → pu_fits x y z → (C o).1 = 3 → (C o).2.length = 4 → post (-3) u) (H1 : ∀ o k u', 1 ≤ o → o ≤ 8 → x = nI o → pu_fits x y z → k ≤ 2 → y = nI k → (C o).1 = 3 → (C o).2.length < 4 → st_in (ob_set C o (3, (C o).2 ++ [(k, z, 0)])) n X K u' → post (nI ((C o).2.length + 1)) u') : wpX_push post u x y z := by
  obtain ⟨hN, hf, ln, ll, rv, sl, aw, wl, ts, fr, fs, iu, a1, a2, a3, a4, a5, a6, a7, a8, a9, a10, a11, a12, a13, a14, a15⟩ := u
  unfold wpX_push
  rcases ob_isobj x with ⟨o, o1, o2, rfl⟩ | hb
  · have hat := hs.2.1 o o1 o2
    have hok := hs.2.2 o
    have hf1 := (ob_okfit hok).1
    have hin : vp_in (nI o) 9 := pk_in o 9 (by omega)
    refine vw_yes o1 o2 (br_f (by decide) (br_c (fun z1 => H0 ?_) (fun z1 => br_c (fun z2 => H0 ?_) (fun z2 => ?_))))
    · rintro ⟨o', k, _, _, _, k1, rfl, _⟩
      exact nI_pos (by omega) z1
    · rintro ⟨o', k, _, _, _, k1, rfl, _⟩
      exact nI_nlt (a := 2) (by omega) (by omega) z2
    · obtain ⟨k, hk, rfl⟩ := nI_of z1
      have hk2 : k ≤ 2 := by
        rcases Nat.lt_or_ge 2 k with w | w
        · exact absurd (nI_lt (a := 2) w (by omega)) z2
        · exact w
      refine vw_item hk2 (fun hi => br_f (by decide) ⟨hin, ?_⟩) (fun hi => br_t rfl (H0 ?_))
      · have hp : pu_fits (nI o) (nI k) z := ⟨o, k, o1, o2, rfl, hk2, rfl, hi⟩
        rw [nI_clamp (by omega), hat.1]
        by_cases c : (C o).1 = 3
        · have h3 := ob_ok3 hok c
          refine br_t (by rw [c]; rfl) ⟨hin, ?_⟩
          rw [hat.2.1]
          by_cases d : (C o).2.length < 4
          · refine br_t (nI_lt (b := 4) d (by omega)) (ob_add o2 hat.2.1 (by omega) ?_)
            refine H1 o k _ o1 o2 rfl hp hk2 rfl c d (st_set hs (ob_chg_add (by omega) (fun j hj => pk_un hj)) ?_ (Or.inr (Or.inr (Or.inr (Or.inl ⟨rfl, by simp; omega, fun it hi' => ?_⟩)))))
            · refine ob_push (it := (k, z, 0)) (by omega) ?_ (fun j hj => pk_un hj) pk_us
              rw [← c]
              exact hat
            · rcases List.mem_append.mp hi' with w | w
              · exact h3.2 it w
              · simp only [List.mem_cons, List.not_mem_nil, or_false] at w
                rw [w]
                exact ⟨rfl, hi⟩
          · exact br_f (nI_nlt (b := 4) (by omega) (by omega)) (H3 o o1 o2 rfl hp c (by omega))
        · exact br_f (ob_kindne (c := 3) hf1 (by omega) c) (H2 o o1 o2 rfl hp c)
      · rintro ⟨o', k', _, _, _, k1, k2, k3⟩
        have : k = k' := (nI_eq (by omega) (by omega)).mp k2
        subst this
        exact hi k3
  · refine vw_no hb (br_t rfl (H0 ?_))
    rintro ⟨o', k, p1, p2, p3, _⟩
    exact ob_notbad p1 p2 p3 hb
/-- a gap is being made: what stands below t is in its place, the rest one further on -/
def mg_at (o t : Nat) (l : List ob_It) (a3 a4 a5 : Nat → Int32) : Prop :=
  (∀ p it, l[p]? = some it → p < t → a4 (6 * o + p) = nI it.1 ∧ a3 (6 * o + p) = it.2.1 ∧ a5 (6 * o + p) = nI it.2.2) ∧ (∀ p it, l[p]? = some it → t ≤ p → a4 (6 * o + (p + 1)) = nI it.1 ∧ a3 (6 * o + (p + 1)) = it.2.1 ∧ a5 (6 * o + (p + 1)) = nI it.2.2)
theorem mg_12 {post : St1 → Prop} {o k : Nat} {l : List ob_It} (ho : o ≤ 8) (hl : l.length ≤ 5) (hs : a2 o = nI l.length) : ∀ (d : Nat) (a3 a4 a5 : Nat → Int32), k + d ≤ l.length → mg_at o (k + d) l a3 a4 a5 → (∀ a3' a4' a5' : Nat → Int32, mg_at o k l a3' a4' a5' → (∀ j, j < 6 * o ∨ 6 * o + 6 ≤ j → a3' j = a3 j ∧ a4' j = a4 j ∧ a5' j = a5 j) → post (hN, hf, ln, ll, rv, sl, aw, wl, ts, fr, fs, iu, a1, upd a2 o (nI (l.length + 1)), a3', a4', a5', a6, a7, a8, a9, a10, a11, a12, a13, a14, a15)) → wX_makeGap_12 post (nI o) (nI k) hN hf ln ll rv sl aw wl ts fr fs iu (d + 1) (nI (6 * o + (k + d))) a1 a2 a3 a4 a5 a6 a7 a8 a9 a10 a11 a12 a13 a14 a15
  | 0, a3, a4, a5, hd, hm, H => by
    have hin : vp_in (nI o) 9 := pk_in o 9 (by omega)
    refine br_t ?_ ⟨hin, hin, nm_r (e' := upd a2 o (nI (l.length + 1))) ?_ (H a3 a4 a5 hm (fun _ _ => ⟨rfl, rfl, rfl⟩))⟩
    · rw [ob_ix]
      exact nI_le (by omega) (by omega)
    · rw [nI_clamp (by omega), hs, nI_1]
  | d + 1, a3, a4, a5, hd, hm, H => by
    have e1 : nI (6 * o + (k + (d + 1))) - 1 = nI (6 * o + (k + d)) := by
      rw [show 6 * o + (k + (d + 1)) = 6 * o + (k + d) + 1 by omega]
      exact nI_pred _
    have e2 : nI (6 * o + (k + (d + 1))) + (-1) = nI (6 * o + (k + d)) := by
      rw [show 6 * o + (k + (d + 1)) = 6 * o + (k + d) + 1 by omega]
      exact pk_m1 _
    have i1 : vp_in (nI (6 * o + (k + d))) 54 := pk_in (6 * o + (k + d)) 54 (by omega)
    have i2 : vp_in (nI (6 * o + (k + (d + 1)))) 54 := pk_in (6 * o + (k + (d + 1))) 54 (by omega)
    have c1 : (nI (6 * o + (k + d))).toNatClampNeg = 6 * o + (k + d) := nI_clamp (by omega)
    have c2 : (nI (6 * o + (k + (d + 1)))).toNatClampNeg = 6 * o + (k + (d + 1)) := nI_clamp (by omega)
    refine br_f ?_ ?_
    · rw [ob_ix]
      exact nI_ge (by omega) (by omega)
    rw [e1, e2, c1, c2]
    refine ⟨i1, i2, nm_e ⟨i1, i2, nm_e ⟨i1, i2, nm_e (nm_e ?_)⟩⟩⟩
    have g : l[k + d]? = some l[k + d] := List.getElem?_eq_getElem (by omega)
    have m1 := hm.1 (k + d) _ g (by omega)
    refine mg_12 ho hl hs d _ _ _ (by omega) ⟨fun p it hp hlt => ?_, fun p it hp hge => ?_⟩ (fun a3' a4' a5' g1 g2 => H a3' a4' a5' g1 (fun j hj => ?_))
    · rw [pk_un (by omega), pk_un (by omega), pk_un (by omega)]
      exact hm.1 p it hp (by omega)
    · by_cases c : p = k + d
      · subst c
        rw [g, Option.some.injEq] at hp
        rw [← hp, show 6 * o + (k + d + 1) = 6 * o + (k + (d + 1)) by omega, pk_us, pk_us, pk_us]
        exact m1
      · rw [pk_un (by omega), pk_un (by omega), pk_un (by omega)]
        exact hm.2 p it hp (by omega)
    · have := g2 j hj
      rw [pk_un (by omega), pk_un (by omega), pk_un (by omega)] at this
      exact this
def pt_its (l : List ob_It) (k k' : Nat) (it : ob_It) : List ob_It := l.take k ++ (it :: l.drop k')
theorem pt_get {l : List ob_It} {k k' : Nat} {it : ob_It} (hk : k ≤ l.length) (p : Nat) : (pt_its l k k' it)[p]? = if p < k then l[p]? else if p = k then some it else l[p - k - 1 + k']? := by
  unfold pt_its
  have el : (l.take k).length = k := by rw [List.length_take]; omega
  by_cases c : p < k
  · rw [if_pos c, List.getElem?_append_left (by omega), List.getElem?_take_of_lt c]
  · rw [if_neg c, List.getElem?_append_right (by omega), el]
    by_cases d : p = k
    · rw [if_pos d, d, Nat.sub_self]; rfl
    · rw [if_neg d]
      obtain ⟨q, hq⟩ : ∃ q, p - k = q + 1 := ⟨p - k - 1, by omega⟩
      rw [hq, List.getElem?_cons_succ, List.getElem?_drop, show q + 1 - 1 + k' = k' + q by omega]
theorem pt_len {l : List ob_It} {k k' : Nat} {it : ob_It} (hk : k ≤ l.length) : (pt_its l k k' it).length = k + 1 + (l.length - k') := by
  unfold pt_its
  rw [List.length_append, List.length_cons, List.length_take, List.length_drop]
  omega
theorem pt_ok {l : List ob_It} {k k' : Nat} {it : ob_It} (hl : l.Pairwise (fun a b => a.2.2 < b.2.2)) (hi : ∀ a ∈ l, a.2.2 < 32 ∧ (a.1 = 0 ∨ a.1 = 2 ∧ ob_link a.2.1)) (hit : it.2.2 < 32 ∧ (it.1 = 0 ∨ it.1 = 2 ∧ ob_link it.2.1)) (h1 : ∀ a ∈ l.take k, a.2.2 < it.2.2) (h2 : ∀ b ∈ l.drop k', it.2.2 < b.2.2) (hn : (pt_its l k k' it).length ≤ 3) : ob_ok (4, pt_its l k k' it) := by
  refine Or.inr (Or.inr (Or.inr (Or.inr (Or.inl ⟨rfl, hn, fun a ha => ?_, ?_⟩))))
  · unfold pt_its at ha
    rcases List.mem_append.mp ha with w | w
    · exact hi a (List.mem_of_mem_take w)
    · rcases List.mem_cons.mp w with w | w
      · rw [w]; exact hit
      · exact hi a (List.mem_of_mem_drop w)
  · unfold pt_its
    refine List.pairwise_append.mpr ⟨hl.sublist (List.take_sublist _ _), List.pairwise_cons.mpr ⟨h2, hl.sublist (List.drop_sublist _ _)⟩, fun a ha b hb => ?_⟩
    have := h1 a ha
    rcases List.mem_cons.mp hb with w | w
    · rw [w]; exact this
    · have := h2 b w
      omega
theorem pt_160 {post : Int32 → St1 → Prop} {C X : Nat → ob_Ob} {n K o k k' key vk : Nat} {z : Int32} {l : List ob_It} {a1' a2' a3' a4' a5' a6' : Nat → Int32} (hs : st_in C n X K (hN, hf, ln, ll, rv, sl, aw, wl, ts, fr, fs, iu, a1, a2, a3, a4, a5, a6, a7, a8, a9, a10, a11, a12, a13, a14, a15)) (o1 : 1 ≤ o) (o2 : o ≤ 8) (hk : k ≤ l.length) (hk6 : k < 6) (hk' : k' ≤ l.length) (h1 : a1' o = nI 4) (h2 : a2' o = nI (pt_its l k k' (vk, z, key)).length) (hg : ∀ p it, (pt_its l k k' (vk, z, key))[p]? = some it → p ≠ k → a4' (6 * o + p) = nI it.1 ∧ a3' (6 * o + p) = it.2.1 ∧ a5' (6 * o + p) = nI it.2.2) (hc : ob_chg o a1 a2 a3 a4 a5 a6 a1' a2' a3' a4' a5' a6') (hok : ob_ok (4, pt_its l k k' (vk, z, key))) (H : ∀ u', st_in (ob_set C o (4, pt_its l k k' (vk, z, key))) n X K u' → post (nI (pt_its l k k' (vk, z, key)).length) u') : wX_put_160 post z (nI o) (nI key) (nI vk) (nI k) hN hf ln ll rv sl aw wl ts fr fs iu a1' a2' a3' a4' a5' a6' a7 a8 a9 a10 a11 a12 a13 a14 a15 := by
  have hin : vp_in (nI o) 9 := pk_in o 9 (by omega)
  have hcl : (nI o).toNatClampNeg = o := nI_clamp (by omega)
  have hi : vp_in (6 * nI o + nI k) 54 := pk_in (6 * o + k) 54 (by omega) (ob_ix o k)
  have hc2 := ob_cl o k o2 (by omega)
  refine ⟨hi, nm_r (by rw [hc2]) ⟨hi, nm_r (by rw [hc2]) ⟨hi, nm_r (by rw [hc2]) ⟨hin, nm_r (by rw [hcl]) ⟨hin, ?_⟩⟩⟩⟩⟩
  rw [hcl, h2]
  refine H _ (st_set hs (ob_chg_t hc ⟨fun j hj => ⟨rfl, rfl, pk_un hj⟩, fun j hj => ⟨pk_un (by omega), pk_un (by omega), pk_un (by omega)⟩⟩) ⟨h1, h2, fun p it hp => ?_⟩ hok)
  by_cases c : p = k
  · subst c
    dsimp only at hp
    rw [pt_get hk, if_neg (by omega), if_pos rfl, Option.some.injEq] at hp
    rw [← hp, pk_us, pk_us, pk_us]
    exact ⟨rfl, rfl, rfl⟩
  · rw [pk_un (by omega), pk_un (by omega), pk_un (by omega)]
    exact hg p it hp c
theorem pt_95 {post : Int32 → St1 → Prop} {C X : Nat → ob_Ob} {n K o k key vk : Nat} {z : Int32} (hs : st_in C n X K (hN, hf, ln, ll, rv, sl, aw, wl, ts, fr, fs, iu, a1, a2, a3, a4, a5, a6, a7, a8, a9, a10, a11, a12, a13, a14, a15)) (o1 : 1 ≤ o) (o2 : o ≤ 8) (h4 : (C o).1 = 4) (hk : k ≤ (C o).2.length) (hkey : key < 32) (hvk : vk = 0 ∨ vk = 2 ∧ ob_link z) (hlo : ∀ j it, (C o).2[j]? = some it → j < k → it.2.2 < key) (hhi : ∀ it, (C o).2[k]? = some it → key ≤ it.2.2) (H3 : post (-3) (hN, hf, ln, ll, rv, sl, aw, wl, ts, fr, fs, iu, a1, a2, a3, a4, a5, a6, a7, a8, a9, a10, a11, a12, a13, a14, a15)) (H : ∀ its u', ob_ok (4, its) → (vk, z, key) ∈ its → st_in (ob_set C o (4, its)) n X K u' → post (nI its.length) u') : wX_put_95 post z (nI o) (nI key) (nI vk) (nI k) hN hf ln ll rv sl aw wl ts fr fs iu a1 a2 a3 a4 a5 a6 a7 a8 a9 a10 a11 a12 a13 a14 a15 := by
  have hat := hs.2.1 o o1 o2
  obtain ⟨l3, hi, hp⟩ := ob_ok4 (hs.2.2 o) h4
  have hin : vp_in (nI o) 9 := pk_in o 9 (by omega)
  have hcl : (nI o).toNatClampNeg = o := nI_clamp (by omega)
  have e1 : ∀ a ∈ (C o).2.take k, a.2.2 < key := by
    intro a ha
    obtain ⟨j, hj⟩ := List.mem_iff_getElem?.mp ha
    rw [List.getElem?_take] at hj
    by_cases c : j < k
    · rw [if_pos c] at hj
      exact hlo j a hj c
    · rw [if_neg c] at hj; simp at hj
  have mem : ∀ k', (vk, z, key) ∈ pt_its (C o).2 k k' (vk, z, key) := fun k' => by
    unfold pt_its
    simp
  have isNew : (∀ b ∈ (C o).2.drop k, key < b.2.2) → wX_put_123 post z (nI o) (nI key) (nI vk) (nI k) hN hf ln ll rv sl aw wl ts fr fs iu a1 a2 a3 a4 a5 a6 a7 a8 a9 a10 a11 a12 a13 a14 a15 := by
    intro e2
    refine br_f (by decide) ⟨hin, ?_⟩
    rw [hcl, hat.2.1]
    refine pk_lt (C o).2.length 3 (fun c => br_f (by decide) ?_) (fun c => H3)
    refine ⟨hin, nm_r (e' := nI (6 * o + (k + ((C o).2.length - k)))) (by rw [hcl, hat.2.1, ob_ix]; congr 1; omega) ⟨(C o).2.length - k + 1, ?_⟩⟩
    refine mg_12 (l := (C o).2) o2 (by omega) hat.2.1 ((C o).2.length - k) a3 a4 a5 (by omega) ⟨fun p it hp _ => hat.2.2 p it hp, fun p it hp hge => ?_⟩ (fun a3' a4' a5' g1 g2 => ?_)
    · rw [List.getElem?_eq_none (by omega)] at hp; simp at hp
    · have hl := pt_len (k' := k) (it := (vk, z, key)) hk
      refine pt_160 (k' := k) hs o1 o2 hk (by omega) hk (by rw [hat.1, h4]) (by rw [pk_us, hl]; congr 1; omega) (fun p it hpp hne => ?_) ⟨fun j hj => ⟨rfl, pk_un hj, rfl⟩, g2⟩ (pt_ok hp hi ⟨hkey, hvk⟩ e1 e2 (by rw [hl]; omega)) (fun u' hu' => H _ u' (pt_ok hp hi ⟨hkey, hvk⟩ e1 e2 (by rw [hl]; omega)) (mem k) hu')
      rw [pt_get hk] at hpp
      by_cases c1 : p < k
      · rw [if_pos c1] at hpp
        exact g1.1 p it hpp c1
      · rw [if_neg c1, if_neg hne] at hpp
        have := g1.2 _ it hpp (by omega)
        rw [show p - k - 1 + k + 1 = p by omega] at this
        exact this
  refine ⟨hin, ?_⟩
  rw [hcl, hat.2.1]
  refine pk_eq k (C o).2.length (fun c => isNew ?_) (fun c => ⟨pk_in (6 * o + k) 54 (by omega) (ob_ix o k), ?_⟩)
  · intro b hb
    rw [c, List.drop_length] at hb
    simp at hb
  · have g : (C o).2[k]? = some (C o).2[k] := List.getElem?_eq_getElem (by omega)
    have hh := hhi _ g
    have hb := (hi _ (List.mem_of_getElem? g)).1
    have hd : (C o).2.drop k = (C o).2[k] :: (C o).2.drop (k + 1) := List.drop_eq_getElem_cons (by omega)
    have hp2 := hp.sublist (List.drop_sublist k _)
    rw [hd] at hp2
    have hp3 := (List.pairwise_cons.mp hp2).1
    rw [ob_cl o k o2 (by omega), (hat.2.2 k _ g).2.2]
    refine pk_eq (C o).2[k].2.2 key (fun ek => ?_) (fun ek => isNew ?_)
    · refine br_t rfl (br_t rfl ?_)
      have e2 : ∀ b ∈ (C o).2.drop (k + 1), key < b.2.2 := fun b hb => by have := hp3 b hb; omega
      have hl := pt_len (k' := k + 1) (it := (vk, z, key)) hk
      refine pt_160 (k' := k + 1) hs o1 o2 hk (by omega) (by omega) (by rw [hat.1, h4]) (by rw [hat.2.1, hl]; congr 1; omega) (fun p it hpp hne => ?_) ob_chg_r (pt_ok hp hi ⟨hkey, hvk⟩ e1 e2 (by rw [hl]; omega)) (fun u' hu' => H _ u' (pt_ok hp hi ⟨hkey, hvk⟩ e1 e2 (by rw [hl]; omega)) (mem (k + 1)) hu')
      rw [pt_get hk] at hpp
      by_cases c1 : p < k
      · rw [if_pos c1] at hpp
        exact hat.2.2 p it hpp
      · rw [if_neg c1, if_neg hne, show p - k - 1 + (k + 1) = p by omega] at hpp
        exact hat.2.2 p it hpp
    · intro b hb
      rw [hd] at hb
      rcases List.mem_cons.mp hb with w | w
      · rw [w]; omega
      · have := hp3 b w; omega
theorem pt_61 {post : Int32 → St1 → Prop} {C X : Nat → ob_Ob} {n K o key vk : Nat} {z : Int32} (hs : st_in C n X K (hN, hf, ln, ll, rv, sl, aw, wl, ts, fr, fs, iu, a1, a2, a3, a4, a5, a6, a7, a8, a9, a10, a11, a12, a13, a14, a15)) (o1 : 1 ≤ o) (o2 : o ≤ 8) (h4 : (C o).1 = 4) (hkey : key < 32) (hvk : vk = 0 ∨ vk = 2 ∧ ob_link z) (H3 : post (-3) (hN, hf, ln, ll, rv, sl, aw, wl, ts, fr, fs, iu, a1, a2, a3, a4, a5, a6, a7, a8, a9, a10, a11, a12, a13, a14, a15)) (H : ∀ its u', ob_ok (4, its) → (vk, z, key) ∈ its → st_in (ob_set C o (4, its)) n X K u' → post (nI its.length) u') : ∀ (r k : Nat), k + r = (C o).2.length → (∀ j it, (C o).2[j]? = some it → j < k → it.2.2 < key) → wX_put_61 post z (nI o) (nI key) (nI vk) hN hf ln ll rv sl aw wl ts fr fs iu a1 a2 a3 a4 a5 a6 a7 a8 a9 a10 a11 a12 a13 a14 a15 (r + 1) (nI k)
  | r, k, hk, hlo => by
    have hat := hs.2.1 o o1 o2
    obtain ⟨l3, hi, hp⟩ := ob_ok4 (hs.2.2 o) h4
    have hin : vp_in (nI o) 9 := pk_in o 9 (by omega)
    have hcl : (nI o).toNatClampNeg = o := nI_clamp (by omega)
    refine ⟨hin, ?_⟩
    rw [hcl, hat.2.1]
    refine pk_le (C o).2.length k (fun c => ?_) (fun c => ⟨pk_in (6 * o + k) 54 (by omega) (ob_ix o k), ?_⟩)
    · refine pt_95 hs o1 o2 h4 (by omega) hkey hvk hlo (fun it hit => ?_) H3 H
      rw [List.getElem?_eq_none c] at hit; simp at hit
    · have g : (C o).2[k]? = some (C o).2[k] := List.getElem?_eq_getElem (by omega)
      have hb := (hi _ (List.mem_of_getElem? g)).1
      rw [ob_cl o k o2 (by omega), (hat.2.2 k _ g).2.2]
      refine pk_le key (C o).2[k].2.2 (fun d => ?_) (fun d => nm_r (nI_1 k) ?_)
      · refine pt_95 hs o1 o2 h4 (by omega) hkey hvk hlo (fun it hit => ?_) H3 H
        rw [g, Option.some.injEq] at hit
        rw [← hit]; exact d
      · match r, hk with
        | 0, hk => omega
        | r + 1, hk =>
          refine pt_61 hs o1 o2 h4 hkey hvk H3 H r (k + 1) (by omega) (fun j it hj hlt => ?_)
          by_cases e : j = k
          · rw [e, g, Option.some.injEq] at hj
            rw [← hj]; exact d
          · exact hlo j it hj (by omega)
theorem pt_shr (x : Int32) : (x >>> ((6 : Int32) &&& 31)).toInt = x.toInt >>> 6 := pk_shr x _ 6 (by decide)
theorem m_put {post : Int32 → St1 → Prop} {C X : Nat → ob_Ob} {n K : Nat} {x z : Int32} {u : St1} (hs : st_in C n X K u) (H0 : ∀ r : Int32, r = -1 ∨ r = -2 ∨ r = -3 → post r u) (H1 : ∀ c its u', 64 ≤ c → c < 576 → x = nI c → ob_ok (4, its) → (2 * (c % 2), z, c % 64 / 2) ∈ its → st_in (ob_set C (c / 64) (4, its)) n X K u' → post (nI its.length) u') : wpX_put post u x z := by
  obtain ⟨hN, hf, ln, ll, rv, sl, aw, wl, ts, fr, fs, iu, a1, a2, a3, a4, a5, a6, a7, a8, a9, a10, a11, a12, a13, a14, a15⟩ := u
  refine nm_e (nm_e ?_)
  rcases ob_isobj (x >>> ((6 : Int32) &&& 31)) with ⟨o, o1, o2, ho⟩ | hb
  · have hsh := pt_shr x
    rw [ho, nI_toInt (by omega), Int.shiftRight_eq_div_pow] at hsh
    have hx0 : ¬ x < 0 := by
      rw [Int32.lt_iff_toInt_lt]
      have e0 : (0 : Int32).toInt = 0 := rfl
      omega
    obtain ⟨c, hc, rfl⟩ := nI_of hx0
    rw [nI_toInt hc] at hsh
    have hc1 : c / 64 = o := by omega
    have ek : (nI c >>> ((1 : Int32) &&& 31)) &&& 31 = nI (c % 64 / 2) := by
      rw [pk_shrN hc _ 1 (by decide), pk_andN (by omega) 5 (by decide)]
      congr 1
      omega
    rw [ek, ho]
    have hin : vp_in (nI o) 9 := pk_in o 9 (by omega)
    have hat := hs.2.1 o o1 o2
    have hf1 := (ob_okfit (hs.2.2 o)).1
    have go : ∀ vk : Nat, vk = 2 * (c % 2) → wX_put_25 post z (nI o) (nI (c % 64 / 2)) (nI vk) hN hf ln ll rv sl aw wl ts fr fs iu a1 a2 a3 a4 a5 a6 a7 a8 a9 a10 a11 a12 a13 a14 a15 := by
      intro vk hvk
      unfold wX_put_25
      refine vw_yes o1 o2 (br_f (by decide) (vw_item (by omega) (fun hi => br_f (by decide) ⟨hin, ?_⟩) (fun _ => br_t rfl (H0 _ (Or.inl rfl)))))
      rw [nI_clamp (by omega), hat.1]
      by_cases c4 : (C o).1 = 4
      · refine br_t (by rw [c4]; rfl) ⟨_, pt_61 hs o1 o2 c4 (by omega) ?_ (H0 _ (Or.inr (Or.inr rfl))) (fun its u' g1 g2 g3 => ?_) (C o).2.length 0 (by omega) (fun j it _ hj => absurd hj (by omega))⟩
        · rcases hi with w | w | w
          · exact Or.inl w
          · omega
          · exact Or.inr w
        · rw [hvk] at g2
          rw [← hc1] at g3
          exact H1 c its u' (by omega) (by omega) rfl g1 g2 g3
      · exact br_f (ob_kindne (c := 4) hf1 (by omega) c4) (H0 _ (Or.inr (Or.inl rfl)))
    have e1 : nI c &&& 1 = nI (c % 2) := pk_andN (by omega) 1 (by decide)
    rw [e1]
    have : c % 2 = 0 ∨ c % 2 = 1 := by omega
    rcases this with w | w
    · rw [w]
      exact br_f (by decide) (go 0 (by omega))
    · rw [w]
      exact br_t rfl (go 2 (by omega))
  · have bad : ∀ k v : Int32, wX_put_25 post z (x >>> ((6 : Int32) &&& 31)) k v hN hf ln ll rv sl aw wl ts fr fs iu a1 a2 a3 a4 a5 a6 a7 a8 a9 a10 a11 a12 a13 a14 a15 := by
      intro k v
      unfold wX_put_25
      exact vw_no hb (br_t rfl (H0 _ (Or.inl rfl)))
    exact br_c (fun _ => bad _ _) (fun _ => bad _ _)
end
section
/-! sweep -/
variable {hN hf ln ll rv sl aw wl ts fr fs iu : Int32} {a1 a2 a3 a4 a5 a6 a7 a8 a9 a10 a11 a12 a13 a14 a15 : Nat → Int32}
def sw_lf (x : ob_Ob) : Nat → Nat → Nat → Nat
  | 0, _, s => s
  | r + 1, i, s => sw_lf x r (i + 1) (if ob_vk x i = 2 then s ||| 2 ^ (ob_val x i).toNatClampNeg else s)
def sw_of (x : ob_Ob) : Nat := sw_lf x x.2.length 0 0
def sw_step (C : Nat → ob_Ob) (o s : Nat) : Nat := if s.testBit o = true then s ||| sw_of (C o) else s
def sw_row (C : Nat → ob_Ob) : Nat → Nat → Nat → Nat
  | 0, _, s => s
  | r + 1, o, s => sw_row C r (o + 1) (sw_step C o s)
def sw_all (C : Nat → ob_Ob) : Nat → Nat → Nat
  | 0, s => s
  | r + 1, s => sw_all C r (sw_row C 8 1 s)
def sw_R (C : Nat → ob_Ob) : Nat := sw_all C 8 (if (C 1).1 = 0 then 0 else 2)
def sw_C (R : Nat) (C : Nat → ob_Ob) : Nat → ob_Ob := fun o => if R.testBit o = true then C o else ob_no
def sw_cnt (R : Nat) (C : Nat → ob_Ob) : Nat → Nat → Nat
  | 0, _ => 0
  | r + 1, o => (if (C o).1 = 0 ∨ R.testBit o = true then 0 else 1) + sw_cnt R C r (o + 1)
theorem sw_cnt_le (R : Nat) (C : Nat → ob_Ob) : ∀ r o, sw_cnt R C r o ≤ r
  | 0, _ => Nat.le_refl _
  | r + 1, o => by
    have := sw_cnt_le R C r (o + 1)
    rw [sw_cnt]
    by_cases c : (C o).1 = 0 ∨ R.testBit o = true
    · rw [if_pos c]; omega
    · rw [if_neg c]; omega
def sw_sub (s t : Nat) : Prop := ∀ j, s.testBit j = true → t.testBit j = true
theorem sw_step_sub (C : Nat → ob_Ob) (o s : Nat) : sw_sub s (sw_step C o s) := by
  intro j hj
  unfold sw_step
  by_cases c : s.testBit o = true
  · rw [if_pos c, Nat.testBit_or, hj]; rfl
  · rw [if_neg c]; exact hj
theorem sw_row_sub (C : Nat → ob_Ob) : ∀ r o s, sw_sub s (sw_row C r o s)
  | 0, _, _ => fun _ h => h
  | r + 1, o, s => fun j hj => sw_row_sub C r (o + 1) _ j (sw_step_sub C o s j hj)
theorem sw_all_sub (C : Nat → ob_Ob) : ∀ r s, sw_sub s (sw_all C r s)
  | 0, _ => fun _ h => h
  | r + 1, s => fun j hj => sw_all_sub C r _ j (sw_row_sub C 8 1 s j hj)
theorem sw_row_same {C : Nat → ob_Ob} {R : Nat} : ∀ r o s, sw_sub (sw_row C r o s) R → sw_row (sw_C R C) r o s = sw_row C r o s
  | 0, _, _, _ => rfl
  | r + 1, o, s, h => by
    have e : sw_step (sw_C R C) o s = sw_step C o s := by
      unfold sw_step
      by_cases c : s.testBit o = true
      · have hR : R.testBit o = true := h o (sw_row_sub C r (o + 1) _ o (sw_step_sub C o s o c))
        rw [if_pos c, if_pos c, show sw_C R C o = C o from if_pos hR]
      · rw [if_neg c, if_neg c]
    rw [sw_row, sw_row, e]
    exact sw_row_same r (o + 1) _ h
theorem sw_all_same {C : Nat → ob_Ob} {R : Nat} : ∀ r s, sw_sub (sw_all C r s) R → sw_all (sw_C R C) r s = sw_all C r s
  | 0, _, _ => rfl
  | r + 1, s, h => by
    rw [sw_all, sw_all, sw_row_same 8 1 s (fun j hj => h j (sw_all_sub C r _ j hj))]
    exact sw_all_same r _ h
/-- what sweep leaves, sweep leaves again -/
theorem sw_R_same (C : Nat → ob_Ob) : sw_R (sw_C (sw_R C) C) = sw_R C := by
  have e : (if ((sw_C (sw_R C) C) 1).1 = 0 then 0 else 2) = (if (C 1).1 = 0 then 0 else 2) := by
    by_cases c : (C 1).1 = 0
    · rw [if_pos c]
      have : (sw_C (sw_R C) C 1).1 = 0 := by
        unfold sw_C
        by_cases d : (sw_R C).testBit 1 = true
        · rw [if_pos d]; exact c
        · rw [if_neg d]; rfl
      rw [if_pos this]
    · have d : (sw_R C).testBit 1 = true := by
        unfold sw_R
        rw [if_neg c]
        exact sw_all_sub C 8 2 1 (by decide)
      have : sw_C (sw_R C) C 1 = C 1 := if_pos d
      rw [this]
  have : sw_R (sw_C (sw_R C) C) = sw_all (sw_C (sw_R C) C) 8 (if ((sw_C (sw_R C) C) 1).1 = 0 then 0 else 2) := rfl
  rw [this, e, sw_all_same]
  · rfl
  · exact fun j hj => hj
theorem sw_cnt0 (R : Nat) (C : Nat → ob_Ob) : ∀ r o, sw_cnt R (sw_C R C) r o = 0
  | 0, _ => rfl
  | r + 1, o => by
    rw [sw_cnt, sw_cnt0 R C r (o + 1)]
    by_cases c : R.testBit o = true
    · rw [if_pos (Or.inr c)]
    · rw [if_pos (Or.inl (by unfold sw_C; rw [if_neg c]; rfl))]
/-- bits of ints below 512 -/
theorem sw_or0 (x : Int32) : x ||| 0 = x := by simp
theorem sw_or (s t : Nat) : nI s ||| nI t = nI (s ||| t) := by
  apply Int32.toBitVec_inj.mp
  apply BitVec.eq_of_toNat_eq
  show (BitVec.ofNat 32 s ||| BitVec.ofNat 32 t).toNat = (BitVec.ofNat 32 (s ||| t)).toNat
  simp [BitVec.toNat_or, BitVec.toNat_ofNat, Nat.or_mod_two_pow]
theorem sw_bit1 : ∀ s, s < 512 → ∀ o, o < 9 → ((nI s >>> (nI o &&& 31)) &&& 1 = 1 ↔ s.testBit o = true) := by decide +kernel
theorem sw_link {x : ob_Ob} {i : Nat} {it : ob_It} (hok : ob_ok x) (hi : x.2[i]? = some it) (h2 : it.1 = 2) : ∃ t : Nat, t ≤ 8 ∧ it.2.1 = nI t := by
  have hm := List.mem_of_getElem? hi
  rcases hok with h | h | h | h | h | h
  · rw [h.2] at hm; simp at hm
  · obtain ⟨_, v, h⟩ := h
    rw [h] at hm
    simp only [List.mem_cons, List.not_mem_nil, or_false] at hm
    rw [hm] at h2
    simp at h2
  · have := (h.2.2 it hm).1; omega
  · rcases (h.2.2 it hm).2 with w | w | w
    · omega
    · omega
    · obtain ⟨_, t, t1, t2, t3⟩ := w
      exact ⟨t, t2, t3⟩
  · rcases (h.2.2.1 it hm).2 with w | w
    · omega
    · obtain ⟨_, t, t1, t2, t3⟩ := w
      exact ⟨t, t2, t3⟩
  · obtain ⟨_, v, ⟨t, t1, t2, t3⟩, h⟩ := h
    rw [h] at hm
    simp only [List.mem_cons, List.not_mem_nil, or_false] at hm
    rw [hm]
    exact ⟨t, t2, t3⟩
theorem sw_lf_lt {x : ob_Ob} (hok : ob_ok x) : ∀ r i s, i + r ≤ x.2.length → s < 512 → sw_lf x r i s < 512
  | 0, _, _, _, h => h
  | r + 1, i, s, hi, h => by
    rw [sw_lf]
    refine sw_lf_lt hok r (i + 1) _ (by omega) ?_
    have g : x.2[i]? = some x.2[i] := List.getElem?_eq_getElem (by omega)
    by_cases c : ob_vk x i = 2
    · rw [if_pos c]
      have e : x.2[i].1 = 2 := by
        unfold ob_vk at c
        rw [g] at c
        have hf := (ob_okfit hok).2.2 _ (List.mem_of_getElem? g)
        have : x.2[i].1 ≤ 3 := by
          by_cases z : x.1 = 2
          · have := (hf.2.2.1 z).1; omega
          · have := hf.2.2.2 z; omega
        exact (nI_eq (b := 2) (by omega) (by omega)).mp c
      obtain ⟨t, t1, t2⟩ := sw_link hok g e
      have ev : ob_val x i = nI t := by rw [ob_val, g]; exact t2
      rw [ev, nI_clamp (by omega)]
      exact ld_or_lt h (by omega)
    · rw [if_neg c]; exact h
theorem sw_step_lt {C : Nat → ob_Ob} (hok : ∀ o, ob_ok (C o)) {o s : Nat} (h : s < 512) : sw_step C o s < 512 := by
  unfold sw_step
  by_cases c : s.testBit o = true
  · rw [if_pos c]
    exact Nat.or_lt_two_pow (n := 9) h (sw_lf_lt (hok o) _ 0 0 (by omega) (by omega))
  · rw [if_neg c]; exact h
theorem sw_7 {post : Int32 → Prop} {o sz : Nat} {C : Nat → ob_Ob} (hC : ob_all C a1 a2 a3 a4 a5) (hok : ∀ o, ob_ok (C o)) (h1 : 1 ≤ o) (h2 : o ≤ 8) (hs : (C o).2.length = sz) : ∀ (r i s : Nat), i + r = sz → post (nI (sw_lf (C o) r i s)) → wX_linkedFrom_7 post (nI o) hN hf ln ll rv sl aw wl ts fr fs iu a1 a2 a3 a4 a5 a6 a7 a8 a9 a10 a11 a12 a13 a14 a15 (r + 1) (nI s) (nI (6 * o + i))
  | 0, i, s, hi, H => by
    have h6 := (ob_okfit (hok o)).2.1
    refine ⟨pk_in o 9 (by omega), ?_⟩
    rw [nI_clamp (by omega), (hC o h1 h2).2.1, ob_ix]
    exact br_t (nI_le (by omega) (by omega)) H
  | r + 1, i, s, hi, H => by
    have hfit := ob_okfit (hok o)
    have h6 := hfit.2.1
    have h5 := hfit.1
    have g : (C o).2[i]? = some (C o).2[i] := List.getElem?_eq_getElem (by omega)
    have hin : vp_in (nI (6 * o + i)) 54 := pk_in (6 * o + i) 54 (by omega)
    have gg := (hC o h1 h2).2.2 i _ g
    have ek : a4 (6 * o + i) = ob_vk (C o) i := by rw [gg.1, ob_vk, g]
    have ev : a3 (6 * o + i) = ob_val (C o) i := by rw [gg.2.1, ob_val, g]
    have hk0 : ¬ (C o).1 = 0 := by
      intro z
      rcases hok o with h | h | h | h | h | h
      · have h7 := h.2
        rw [h7, List.length_nil] at hs
        omega
      all_goals omega
    refine ⟨pk_in o 9 (by omega), ?_⟩
    rw [nI_clamp (show o < 2 ^ 31 by omega), (hC o h1 h2).2.1, ob_ix]
    refine br_f (nI_ge (by omega) (by omega)) ⟨pk_in o 9 (by omega), ?_⟩
    rw [(hC o h1 h2).1]
    refine br_f (ob_kindne (c := 0) h5 (by omega) hk0) ⟨hin, ?_⟩
    rw [nI_clamp (show 6 * o + i < 2 ^ 31 by omega), ek, ev]
    rw [sw_lf] at H
    by_cases c : ob_vk (C o) i = 2
    · have e : (C o).2[i].1 = 2 := by
        unfold ob_vk at c
        rw [g] at c
        have hf := hfit.2.2 _ (List.mem_of_getElem? g)
        have : (C o).2[i].1 ≤ 3 := by
          by_cases z : (C o).1 = 2
          · have := (hf.2.2.1 z).1; omega
          · have := hf.2.2.2 z; omega
        exact (nI_eq (b := 2) (by omega) (by omega)).mp c
      obtain ⟨t, t1, t2⟩ := sw_link (hok o) g e
      have ev2 : ob_val (C o) i = nI t := by rw [ob_val, g]; exact t2
      rw [if_pos c, ev2, nI_clamp (by omega)] at H
      refine br_t c ⟨hin, nm_r (e' := nI (s ||| 2 ^ t)) ?_ (nm_r (nI_1 _) (sw_7 hC hok h1 h2 hs r (i + 1) _ (by omega) H))⟩
      rw [ev2, ← sw_or]
      congr 1
      have := ld_or 0 (by omega) t (by omega)
      rw [Nat.zero_or] at this
      rw [← this]
      show _ = (0 : Int32) ||| _
      simp
    · rw [if_neg c] at H
      exact br_f c (nm_r (sw_or0 _) (nm_r (nI_1 _) (sw_7 hC hok h1 h2 hs r (i + 1) _ (by omega) H)))
theorem sw_linked {post : Int32 → Prop} {o : Nat} {C : Nat → ob_Ob} (hC : ob_all C a1 a2 a3 a4 a5) (hok : ∀ o, ob_ok (C o)) (h1 : 1 ≤ o) (h2 : o ≤ 8) (H : post (nI (sw_of (C o)))) : wpX_linkedFrom post (hN, hf, ln, ll, rv, sl, aw, wl, ts, fr, fs, iu, a1, a2, a3, a4, a5, a6, a7, a8, a9, a10, a11, a12, a13, a14, a15) (nI o) :=
  nm_r (ob_6 o) ⟨_, sw_7 hC hok h1 h2 rfl (C o).2.length 0 0 (by omega) H⟩
theorem sw_25 {post : Int32 → St1 → Prop} {J : Int32 → Int32 → Prop} {C : Nat → ob_Ob} {m : Nat} (hC : ob_all C a1 a2 a3 a4 a5) (hok : ∀ o, ob_ok (C o)) : ∀ (r o s : Nat), o + r = 8 → s < 512 → (sw_row C r (o + 1) s < 512 → J (nI (sw_row C r (o + 1) s)) (nI (m + 1))) → wX_sweep_25 post J (nI m) hN hf ln ll rv sl aw wl ts fr fs iu a1 a2 a3 a4 a5 a6 a7 a8 a9 a10 a11 a12 a13 a14 a15 (r + 1) (nI s) (nI (o + 1))
  | 0, o, s, ho, hs, H => br_t (nI_lt (a := 8) (by omega) (by omega)) (nm_r (nI_1 m) (H hs))
  | r + 1, o, s, ho, hs, H => by
    have hb := sw_bit1 s hs (o + 1) (by omega)
    have hlt := sw_step_lt hok (o := o + 1) hs
    refine br_f (nI_nlt (a := 8) (by omega) (by omega)) ?_
    rw [sw_row] at H
    have t := sw_25 (post := post) hC hok r (o + 1) (sw_step C (o + 1) s) (by omega) hlt H
    by_cases c : s.testBit (o + 1) = true
    · have e : sw_step C (o + 1) s = s ||| sw_of (C (o + 1)) := if_pos c
      rw [e] at t
      exact br_t (hb.mpr c) (sw_linked hC hok (by omega) (by omega) (nm_r (sw_or _ _) (nm_r (nI_1 _) t)))
    · have e : sw_step C (o + 1) s = s := if_neg c
      rw [e] at t
      exact br_f (fun z => c (hb.mp z)) (nm_r (sw_or0 _) (nm_r (nI_1 _) t))
theorem sw_68 {post : Int32 → St1 → Prop} {C X : Nat → ob_Ob} {n K R : Nat} (hR : R < 512) (hok : ∀ o, ob_ok (C o)) : ∀ (r o c : Nat) (a1 a2 a3 a4 a5 a6 : Nat → Int32), o + r = 8 → c + r ≤ 100 → (∃ D, st_in D n X K (hN, hf, ln, ll, rv, sl, aw, wl, ts, fr, fs, iu, a1, a2, a3, a4, a5, a6, a7, a8, a9, a10, a11, a12, a13, a14, a15) ∧ ∀ j, 1 ≤ j → j ≤ 8 → D j = if j ≤ o then sw_C R C j else C j) → (∀ u', st_in (sw_C R C) n X K u' → post (nI (c + sw_cnt R C r (o + 1))) u') → wX_sweep_68 post (nI R) (r + 1) (nI c) (nI (o + 1)) hN hf ln ll rv sl aw wl ts fr fs iu a1 a2 a3 a4 a5 a6 a7 a8 a9 a10 a11 a12 a13 a14 a15
  | 0, o, c, a1, a2, a3, a4, a5, a6, ho, hc, ⟨D, hD, hj⟩, H => by
    refine br_t (nI_lt (a := 8) (by omega) (by omega)) (H _ ?_)
    refine ⟨hD.1, fun j j1 j2 => ?_, fun j => ?_⟩
    · have := hj j j1 j2
      rw [if_pos (by omega)] at this
      rw [← this]
      exact hD.2.1 j j1 j2
    · unfold sw_C
      by_cases c : R.testBit j = true
      · rw [if_pos c]; exact hok j
      · rw [if_neg c]; exact ob_okno
  | r + 1, o, c, a1, a2, a3, a4, a5, a6, ho, hc, ⟨D, hD, hj⟩, H => by
    have hin : vp_in (nI (o + 1)) 9 := pk_in (o + 1) 9 (by omega)
    have e := hj (o + 1) (by omega) (by omega)
    rw [if_neg (by omega)] at e
    have hat := hD.2.1 (o + 1) (by omega) (by omega)
    rw [e] at hat
    have h5 := (ob_okfit (hok (o + 1))).1
    have hb := ld_bit R hR (o + 1) (by omega)
    have next : ∀ D' : Nat → ob_Ob, (∀ j, j ≠ o + 1 → D' j = D j) → D' (o + 1) = sw_C R C (o + 1) → ∀ j, 1 ≤ j → j ≤ 8 → D' j = if j ≤ o + 1 then sw_C R C j else C j := by
      intro D' g1 g2 j j1 j2
      by_cases c : j = o + 1
      · rw [c, if_pos (Nat.le_refl _)]; exact g2
      · rw [g1 j c, hj j j1 j2]
        by_cases d : j ≤ o
        · rw [if_pos d, if_pos (by omega)]
        · rw [if_neg d, if_neg (by omega)]
    rw [sw_cnt] at H
    refine br_f (nI_nlt (a := 8) (by omega) (by omega)) ⟨hin, ?_⟩
    rw [nI_clamp (by omega), hat.1]
    by_cases c0 : (C (o + 1)).1 = 0
    · rw [if_pos (Or.inl c0), Nat.zero_add] at H
      have e2 : C (o + 1) = ob_no := by
        rcases hok (o + 1) with h | h | h | h | h | h
        · exact Prod.ext h.1 h.2
        all_goals omega
      have e3 : sw_C R C (o + 1) = C (o + 1) := by
        unfold sw_C
        by_cases d : R.testBit (o + 1) = true
        · rw [if_pos d]
        · rw [if_neg d, e2]
      exact br_t (by rw [c0]; rfl) (nm_r (nI_1 _) (sw_68 hR hok r (o + 1) c a1 a2 a3 a4 a5 a6 (by omega) (by omega) ⟨D, hD, next D (fun _ _ => rfl) (by rw [e, e3])⟩ H))
    · refine br_f (ob_kindne (c := 0) h5 (by omega) c0) ?_
      cases d : R.testBit (o + 1) with
      | false =>
        rw [if_neg (by rw [d]; intro z; rcases z with z | z; exact c0 z; simp at z)] at H
        refine br_t (hb.mpr d) (ob_become (by omega) (nm_r (nI_1 _) (nm_r (nI_1 _) ?_)))
        refine sw_68 hR hok r (o + 1) (c + 1) _ _ _ _ _ _ (by omega) (by omega) ⟨ob_set D (o + 1) ob_no, st_set hD ob_chg_become (ob_at0 (k := 0)) ob_okno, next _ (fun j hj => ob_set_n hj) ?_⟩ (fun u' hu' => ?_)
        · rw [ob_set_s]
          unfold sw_C
          rw [d]; rfl
        · have := H u' hu'
          rw [← Nat.add_assoc] at this
          exact this
      | true =>
        rw [if_pos (Or.inr d), Nat.zero_add] at H
        refine br_f (fun z => by have := hb.mp z; rw [d] at this; simp at this) (nm_r (nI_1 _) ?_)
        exact sw_68 hR hok r (o + 1) c a1 a2 a3 a4 a5 a6 (by omega) (by omega) ⟨D, hD, next D (fun _ _ => rfl) (by rw [e]; unfold sw_C; rw [d]; rfl)⟩ H
theorem sw_17 {post : Int32 → St1 → Prop} {C X : Nat → ob_Ob} {n K : Nat} (hs : st_in C n X K (hN, hf, ln, ll, rv, sl, aw, wl, ts, fr, fs, iu, a1, a2, a3, a4, a5, a6, a7, a8, a9, a10, a11, a12, a13, a14, a15)) : ∀ (r m s : Nat), m + r = 8 → s < 512 → (∀ u', st_in (sw_C (sw_all C r s) C) n X K u' → post (nI (sw_cnt (sw_all C r s) C 8 1)) u') → wX_sweep_17 post hN hf ln ll rv sl aw wl ts fr fs iu a1 a2 a3 a4 a5 a6 a7 a8 a9 a10 a11 a12 a13 a14 a15 (r + 1) (nI s) (nI m)
  | 0, m, s, hm, hlt, H => by
    refine br_t (nI_le (a := 8) (by omega) (by omega)) ⟨9, sw_68 hlt hs.2.2 8 0 0 a1 a2 a3 a4 a5 a6 rfl (by omega) ⟨C, hs, fun j j1 j2 => by rw [if_neg (by omega)]⟩ (fun u' hu' => ?_)⟩
    rw [Nat.zero_add]
    exact H u' hu'
  | r + 1, m, s, hm, hlt, H => by
    refine br_f (nI_ge (b := 8) (by omega) (by omega)) ⟨9, sw_25 hs.2.1 hs.2.2 8 0 s rfl hlt (fun hlt' => ?_)⟩
    exact sw_17 hs r (m + 1) _ (by omega) hlt' H
theorem m_sweep {post : Int32 → St1 → Prop} {C X : Nat → ob_Ob} {n K : Nat} {u : St1} (hs : st_in C n X K u) (H : ∀ u', st_in (sw_C (sw_R C) C) n X K u' → post (nI (sw_cnt (sw_R C) C 8 1)) u') : wpX_sweep post u := by
  obtain ⟨hN, hf, ln, ll, rv, sl, aw, wl, ts, fr, fs, iu, a1, a2, a3, a4, a5, a6, a7, a8, a9, a10, a11, a12, a13, a14, a15⟩ := u
  have hat := (hs.2.1 1 (by omega) (by omega)).1
  have h5 := (ob_okfit (hs.2.2 1)).1
  unfold wpX_sweep
  dsimp only
  rw [hat]
  unfold sw_R at H
  by_cases c : (C 1).1 = 0
  · rw [if_pos c] at H
    exact br_t (by rw [c]; rfl) ⟨9, sw_17 hs 8 0 0 rfl (by omega) H⟩
  · rw [if_neg c] at H
    exact br_f (ob_kindne (c := 0) h5 (by omega) c) ⟨9, sw_17 hs 8 0 2 rfl (by omega) H⟩
end
section
/-! the file after a revision is written -/
variable {hN hf ln ll rv sl aw wl ts fr fs iu : Int32} {a1 a2 a3 a4 a5 a6 a7 a8 a9 a10 a11 a12 a13 a14 a15 : Nat → Int32}
theorem fi_rev_mono {g g' : Nat → Int32} {ln0 ln1 Lp : Nat} {sc : List Nat} {pk : Bool} {bef : Int32} {X P : Nat → ob_Ob} (h : fi_rev g ln0 sc pk Lp bef X P) (hg : ∀ p, p < ln0 → g' p = g p) (hl : ln0 ≤ ln1) : fi_rev g' ln1 sc pk Lp bef X P := by
  obtain ⟨E, e1, e2, e3, e4, e5⟩ := h
  refine ⟨E, e1, sg_keep _ _ (fun j _ hj => hg j (by omega)) e2, by omega, fun e he => ?_, e5⟩
  obtain ⟨k1, k2, k3, k4⟩ := e4 e he
  refine ⟨k1, k2, k3, fun p hp => ?_⟩
  obtain ⟨m1, m2, m3⟩ := k4 p hp
  refine ⟨m1, m2, fun z => ?_⟩
  have := m3 z
  exact ⟨sg_keep _ _ (fun j _ hj => hg j (by omega)) this.1, by omega⟩
theorem fi_mono {g g' : Nat → Int32} {ln0 n : Nat} {rs : List (Nat × Nat)} {pk : Bool} {R : Nat → Nat → ob_Ob} {L : Nat → Nat} (h : fi_ok g ln0 rs pk n R L) (hg : ∀ p, p < ln0 → g' p = g p) : fi_ok g' ln0 rs pk n R L := by
  obtain ⟨f1, f2, f3, f4, f5⟩ := h
  refine ⟨f1, f2, f3, fun z => ?_, fun j hj => fi_rev_mono (f5 j hj) hg (Nat.le_refl _)⟩
  obtain ⟨k1, ⟨k2, k3, k4⟩, k5⟩ := f4 z
  exact ⟨k1, ⟨k2, k3, sg_keep _ _ (fun j _ hj => hg j (by omega)) k4⟩, k5⟩
theorem en_bo_pre {C : Nat → ob_Ob} {sel : Nat → Bool} {j : Nat} : ∀ d, ∃ ys, en_bo C sel (j + d) = en_bo C sel j ++ ys
  | 0 => ⟨[], by rw [List.append_nil]; rfl⟩
  | d + 1 => by
    obtain ⟨ys, hy⟩ := en_bo_pre (C := C) (sel := sel) (j := j) d
    rw [← Nat.add_assoc, en_bo, hy, List.append_assoc]
    exact ⟨_, rfl⟩
theorem en_bo_split {C : Nat → ob_Ob} {sel : Nat → Bool} {j k : Nat} (hj : j < k) (hs : sel (j + 1) = true) (hk : (C (j + 1)).1 ≠ 0) : ∃ ys, en_bo C sel k = en_bo C sel j ++ (en_ob (C (j + 1)) ++ ys) := by
  obtain ⟨ys, hy⟩ := en_bo_pre (C := C) (sel := sel) (j := j + 1) (k - (j + 1))
  rw [show j + 1 + (k - (j + 1)) = k by omega, en_bo, if_pos ⟨hs, hk⟩, List.append_assoc] at hy
  exact ⟨ys, hy⟩
theorem ob_ok0 {x : ob_Ob} (h : ob_ok x) (hk : x.1 = 0) : x = ob_no := by
  rcases h with h | h | h | h | h | h
  · exact Prod.ext h.1 h.2
  all_goals omega
theorem fi_rev_new {C P : Nat → ob_Ob} {sel : Nat → Bool} {st p0 : Nat} {pk : Bool} {sc bs0 : List Nat} {g : Nat → Int32} {bef : Int32} (hok : ∀ o, ob_ok (C o)) (hst : st ≤ 3700) (hw : sg_at g p0 (en_rev bs0 pk (en_E C sel st 8) bef)) (hpk : pk = true → sc = en_bo C sel 8 ∧ st = 0) (hnp : pk = false → bs0 = en_bo C sel 8 ∧ st = p0) (hP : ∀ o, 1 ≤ o → o ≤ 8 → ¬ sel o = true → C o = P o) : fi_rev g (p0 + (en_rev bs0 pk (en_E C sel st 8) bef).length) sc pk (p0 + bs0.length) bef C P := by
  unfold en_rev at hw ⊢
  have hw2 := (sg_app _ _ _ _).mp hw
  refine ⟨en_E C sel st 8, en_E_len 8, hw2.2, by rw [List.length_append]; omega, fun e he => ?_, fun o o1 o2 hne => hP o o1 o2 (fun hs => ?_)⟩
  · obtain ⟨j, j1, j2, j3, j4⟩ := en_E_mem 8 e he
    refine ⟨by omega, by omega, fun z => ?_, fun p hp => ?_⟩
    · rw [j2]
      refine ob_ok0 (hok _) ?_
      by_cases c : (C (j + 1)).1 = 0
      · exact c
      · rw [j4, if_neg c] at z; simp at z
    · have hlt := en_E_lt hok hst e he p hp
      have c : (C (j + 1)).1 ≠ 0 := by
        intro c
        rw [j4, if_pos c] at hp; simp at hp
      rw [j4, if_neg c, Option.some.injEq] at hp
      obtain ⟨ys, hy⟩ := en_bo_split (k := 8) j1 j3 c
      rw [j2]
      refine ⟨hlt, fun z => ?_, fun z => ?_⟩
      · obtain ⟨k1, k2⟩ := hpk z
        exact ⟨en_bo C sel j, ys, by rw [k1, hy], by omega⟩
      · obtain ⟨k1, k2⟩ := hnp z
        have h1 := hw2.1
        rw [k1, hy] at h1
        have h2 := sg_l (sg_r h1)
        have h3 : bs0.length = (en_bo C sel j).length + ((en_ob (C (j + 1))).length + ys.length) := by
          rw [k1, hy, List.length_append, List.length_append]
        rw [← k2, hp] at h2
        refine ⟨h2, ?_⟩
        rw [List.length_append]
        omega
  · obtain ⟨e, e1, e2⟩ := en_E_has (C := C) (st := st) 8 o o1 o2 hs
    exact hne e e1 e2
theorem fi_bef_if {L : Nat → Nat} {n v : Nat} : ∀ j, j ≤ n → fi_bef (fun i => if i = n then v else L i) j = fi_bef L j
  | 0, _ => rfl
  | j + 1, h => by
    show nI (if j = n then v else L j) = nI (L j)
    rw [if_neg (by omega)]
theorem fi_prev_if {R : Nat → Nat → ob_Ob} {n : Nat} {C : Nat → ob_Ob} : ∀ j, j ≤ n → fi_prev (fun i => if i = n then C else R i) j = fi_prev R j
  | 0, _ => rfl
  | j + 1, h => by
    show (if j = n then C else R j) = R j
    rw [if_neg (by omega)]
theorem fi_app {h ln0 n : Nat} {rs : List (Nat × Nat)} {pk : Bool} {R : Nat → Nat → ob_Ob} {L : Nat → Nat} {C : Nat → ob_Ob} {sel : Nat → Bool} (hf : fi_ok (fi_g h a7) ln0 rs pk n R L) (hn : n < 5) (hok : ∀ o, ob_ok (C o)) (hP : ∀ o, 1 ≤ o → o ≤ 8 → ¬ sel o = true → C o = fi_prev R n o) : fi_ok (fi_g h (wr_f h ln0 3700 a7 (en_rev (en_bo C sel 8) false (en_E C sel ln0 8) (fi_bef L n)))) (ln0 + (en_rev (en_bo C sel 8) false (en_E C sel ln0 8) (fi_bef L n)).length) rs pk (n + 1) (fun i => if i = n then C else R i) (fun i => if i = n then ln0 + (en_bo C sel 8).length else L i) := by
  obtain ⟨b1, b2, b3⟩ := fi_bound hf
  obtain ⟨f1, f2, f3, f4, f5⟩ := hf
  have hb := en_bo_len (sel := sel) hok 8
  have hl := en_list_len (C := C) (sel := sel) (st := ln0) (pk := false) (v := fi_bef L n) hok (by omega)
  have hlen : (en_rev (en_bo C sel 8) false (en_E C sel ln0 8) (fi_bef L n)).length ≤ 501 := by
    rw [en_rev, List.length_append]; omega
  have hlt : ∀ b ∈ en_rev (en_bo C sel 8) false (en_E C sel ln0 8) (fi_bef L n), b < 256 := by
    intro b hb
    rcases List.mem_append.mp hb with w | w
    · exact en_bo_lt hok 8 b w
    · exact en_list_lt (fun e he => by obtain ⟨j, j1, j2, _⟩ := en_E_mem 8 e he; omega) b w
  have hat := wr_f_at h _ ln0 3700 a7 (show (en_rev (en_bo C sel 8) false (en_E C sel ln0 8) (fi_bef L n)).length ≤ 3700 by omega) hlt
  have hlo : ∀ p, p < ln0 → fi_g h (wr_f h ln0 3700 a7 (en_rev (en_bo C sel 8) false (en_E C sel ln0 8) (fi_bef L n))) p = fi_g h a7 p := fun p hp => wr_f_lo hp
  refine ⟨by omega, by omega, fun j o => ?_, fun z => ?_, fun j hj => ?_⟩
  · show ob_ok ((if j = n then C else R j) o)
    by_cases c : j = n
    · rw [if_pos c]; exact hok o
    · rw [if_neg c]; exact f3 j o
  · obtain ⟨k1, ⟨k2, k3, k4⟩, k5⟩ := f4 z
    exact ⟨by omega, ⟨k2, k3, sg_keep _ _ (fun j _ hj => hlo j (by omega)) k4⟩, by omega⟩
  · by_cases c : j = n
    · subst c
      dsimp only
      rw [if_pos rfl, if_pos rfl, fi_bef_if j (Nat.le_refl _), fi_prev_if j (Nat.le_refl _)]
      have epk : fi_pk pk j = false := by
        cases j with
        | zero =>
          cases pk with
          | false => rfl
          | true => exact absurd (f4 rfl).1 (by omega)
        | succ j => rfl
      rw [epk]
      exact fi_rev_new hok (by omega) hat (fun z => by simp at z) (fun _ => ⟨rfl, rfl⟩) hP
    · dsimp only
      rw [if_neg c, if_neg c, fi_bef_if j (by omega), fi_prev_if j (by omega)]
      exact fi_rev_mono (f5 j (by omega)) hlo (by omega)
theorem fi_one {h : Nat} {C : Nat → ob_Ob} (hok : ∀ o, ob_ok (C o)) : fi_ok (fi_g h (wr_f h 0 3700 a7 (en_rev (en_bo C (fun _ => true) 8) false (en_E C (fun _ => true) 0 8) (-1)))) (en_rev (en_bo C (fun _ => true) 8) false (en_E C (fun _ => true) 0 8) (-1)).length [] false 1 (fun _ => C) (fun _ => (en_bo C (fun _ => true) 8).length) := by
  have hb := en_bo_len (sel := fun _ => true) hok 8
  have hl := en_list_len (C := C) (sel := fun _ => true) (st := 0) (pk := false) (v := -1) hok (by omega)
  have hlen : (en_rev (en_bo C (fun _ => true) 8) false (en_E C (fun _ => true) 0 8) (-1)).length ≤ 501 := by
    rw [en_rev, List.length_append]; omega
  have hlt : ∀ b ∈ en_rev (en_bo C (fun _ => true) 8) false (en_E C (fun _ => true) 0 8) (-1), b < 256 := by
    intro b hb
    rcases List.mem_append.mp hb with w | w
    · exact en_bo_lt hok 8 b w
    · exact en_list_lt (fun e he => by obtain ⟨j, j1, j2, _⟩ := en_E_mem 8 e he; omega) b w
  have hat := wr_f_at h _ 0 3700 a7 (show (en_rev (en_bo C (fun _ => true) 8) false (en_E C (fun _ => true) 0 8) (-1)).length ≤ 3700 by omega) hlt
  refine ⟨by omega, by omega, fun j o => hok o, fun z => by simp at z, fun j hj => ?_⟩
  have : j = 0 := by omega
  subst this
  have t := fi_rev_new (P := fun _ => ob_no) (sc := ru_ex []) hok (by omega) hat (fun z => by simp at z) (fun _ => ⟨rfl, rfl⟩) (fun o _ _ z => absurd rfl z)
  rw [Nat.zero_add, Nat.zero_add] at t
  exact t
theorem fi_two {h : Nat} {C : Nat → ob_Ob} {rs : List (Nat × Nat)} (hok : ∀ o, ob_ok (C o)) (hrs : ru_ok rs) (hex : ru_ex rs = en_bo C (fun _ => true) 8) : fi_ok (fi_g h (wr_f h 0 3700 a7 (en_rev (en_nat (ru_ex rs).length ++ [58] ++ ru_by rs) true (en_E C (fun _ => true) 0 8) (-1)))) (en_rev (en_nat (ru_ex rs).length ++ [58] ++ ru_by rs) true (en_E C (fun _ => true) 0 8) (-1)).length rs true 1 (fun _ => C) (fun _ => (en_nat (ru_ex rs).length ++ [58] ++ ru_by rs).length) := by
  have hb := en_bo_len (sel := fun _ => true) hok 8
  have hl := en_list_len (C := C) (sel := fun _ => true) (st := 0) (pk := true) (v := -1) hok (by omega)
  have hx := ru_ex_len rs hrs
  have hy := ru_by_len rs
  have hm : (ru_ex rs).length ≤ 432 := by rw [hex]; omega
  have e3 : (en_nat (ru_ex rs).length).length ≤ 3 := en_nat_len (k := 2) (by omega)
  have hlen0 : (en_nat (ru_ex rs).length ++ [58] ++ ru_by rs).length ≤ 868 := by
    rw [List.length_append, List.length_append, List.length_cons, List.length_nil]; omega
  have hlen : (en_rev (en_nat (ru_ex rs).length ++ [58] ++ ru_by rs) true (en_E C (fun _ => true) 0 8) (-1)).length ≤ 937 := by
    rw [en_rev, List.length_append]; omega
  have hby : ∀ rs : List (Nat × Nat), ru_ok rs → ∀ b ∈ ru_by rs, b < 256 := by
    intro rs
    induction rs with
    | nil => intro _ b hb; simp [ru_by] at hb
    | cons r rs ih =>
      intro h b hb
      have h1 := h r (by simp)
      rw [ru_by, List.mem_cons, List.mem_cons] at hb
      rcases hb with w | w | w
      · omega
      · omega
      · exact ih (fun x hx => h x (by simp [hx])) b w
  have hlt : ∀ b ∈ en_rev (en_nat (ru_ex rs).length ++ [58] ++ ru_by rs) true (en_E C (fun _ => true) 0 8) (-1), b < 256 := by
    intro b hb
    rcases List.mem_append.mp hb with w | w
    · rcases List.mem_append.mp w with w | w
      · rcases List.mem_append.mp w with w | w
        · have := en_nat_mem w; omega
        · simp at w; omega
      · exact hby rs hrs b w
    · exact en_list_lt (fun e he => by obtain ⟨j, j1, j2, _⟩ := en_E_mem 8 e he; omega) b w
  have hat := wr_f_at h _ 0 3700 a7 (show (en_rev (en_nat (ru_ex rs).length ++ [58] ++ ru_by rs) true (en_E C (fun _ => true) 0 8) (-1)).length ≤ 3700 by omega) hlt
  refine ⟨by omega, by omega, fun j o => hok o, fun _ => ⟨by omega, ⟨hrs, hm, ?_⟩, ?_⟩, fun j hj => ?_⟩
  · rw [en_rev] at hat ⊢
    exact sg_l hat
  · simp only [en_rev, List.length_append]; omega
  · have : j = 0 := by omega
    subst this
    have t := fi_rev_new (P := fun _ => ob_no) (sc := ru_ex rs) hok (by omega) hat (fun _ => ⟨hex, rfl⟩) (fun z => by simp at z) (fun o _ _ z => absurd rfl z)
    rw [Nat.zero_add, Nat.zero_add] at t
    exact t
end
section
/-! writeHead, findHead, save, breakOff, open -/
variable {hN hf ln ll rv sl aw wl ts fr fs iu : Int32} {a1 a2 a3 a4 a5 a6 a7 a8 a9 a10 a11 a12 a13 a14 a15 : Nat → Int32}
theorem hd_slot {k : Nat} (hk : k < 2 ^ 31) : (6 : Int32) * (nI k &&& 1) = nI (6 * (k % 2)) := by
  rw [pk_andN (by omega) 1 (by decide), ob_6]
theorem hd_write {post : St1 → Prop} {k h ln0 n : Nat} {v : Int32} (hk : k < 2 ^ 30) (hd : hd_ok k h ln0 v n a8) {h' ln1 n' : Nat} {v' : Int32} (H : ∀ a8' : Nat → Int32, hd_ok (k + 1) h' ln1 v' n' a8' → post (nI (k + 1), nI h', nI ln1, v', nI n', sl, aw, wl, ts, fr, fs, iu, a1, a2, a3, a4, a5, a6, a7, a8', a9, a10, a11, a12, a13, a14, a15)) : wpX_writeHead post (nI k, nI h', nI ln1, v', nI n', sl, aw, wl, ts, fr, fs, iu, a1, a2, a3, a4, a5, a6, a7, a8, a9, a10, a11, a12, a13, a14, a15) := by
  obtain ⟨d1, d2, d3, d4, d5, d6, d7, m, d8, d9⟩ := hd
  have hs : 6 * (k % 2) + 5 < 12 := by omega
  have e : ∀ i : Nat, i ≤ 5 → nI (6 * (k % 2)) + nI i = nI (6 * (k % 2) + i) := fun i _ => nI_add _ _
  have c : ∀ i : Nat, i ≤ 5 → (nI (6 * (k % 2)) + nI i).toNatClampNeg = 6 * (k % 2) + i := fun i hi => by rw [e i hi, nI_clamp (by omega)]
  have v : ∀ i : Nat, i ≤ 5 → vp_in (nI (6 * (k % 2)) + nI i) 12 := fun i hi => pk_in (6 * (k % 2) + i) 12 (by omega) (e i hi)
  have c0 : (nI (6 * (k % 2))).toNatClampNeg = 6 * (k % 2) := nI_clamp (by omega)
  refine nm_r (hd_slot (by omega)) (nm_r (nI_1 k) ⟨pk_in (6 * (k % 2)) 12 (by omega), nm_r (by rw [c0]) ⟨v 1 (by omega), nm_r (congrArg (fun z => upd _ z _) (c 1 (by omega))) ⟨v 2 (by omega), nm_r (congrArg (fun z => upd _ z _) (c 2 (by omega))) ⟨v 3 (by omega), nm_r (congrArg (fun z => upd _ z _) (c 3 (by omega))) ⟨v 4 (by omega), nm_r (congrArg (fun z => upd _ z _) (c 4 (by omega))) ⟨v 5 (by omega), nm_r (congrArg (fun z => upd _ z _) (c 5 (by omega))) (H _ ?_)⟩⟩⟩⟩⟩⟩)
  have ek : (k + 1 + 1) % 2 = k % 2 := by omega
  refine ⟨by omega, ?_, ?_, ?_, ?_, ?_, ?_, k, by omega, ?_⟩
  · rw [ek, pk_un (by omega), pk_un (by omega), pk_un (by omega), pk_un (by omega), pk_un (by omega), pk_us]
  · rw [ek, pk_un (by omega), pk_un (by omega), pk_un (by omega), pk_un (by omega), pk_us]
  · rw [ek, pk_un (by omega), pk_un (by omega), pk_un (by omega), pk_us]
  · rw [ek, pk_un (by omega), pk_un (by omega), pk_us]
  · rw [ek, pk_un (by omega), pk_us]
  · rw [ek, pk_us]
  · rw [pk_un (by omega), pk_un (by omega), pk_un (by omega), pk_un (by omega), pk_un (by omega), pk_un (by omega)]
    exact d7
theorem sv_72 {post : Int32 → St1 → Prop} (H : ∀ a6' : Nat → Int32, post rv (hN, hf, ln, ll, rv, sl, aw, wl, ts, fr, fs, iu, a1, a2, a3, a4, a5, a6', a7, a8, a9, a10, a11, a12, a13, a14, a15)) : ∀ (r o : Nat) (a6 : Nat → Int32), o + r = 8 → wX_save_72 post hN hf ln ll rv sl aw wl ts fr fs iu (r + 1) (nI (o + 1)) a1 a2 a3 a4 a5 a6 a7 a8 a9 a10 a11 a12 a13 a14 a15
  | 0, o, a6, ho => br_t (nI_lt (a := 8) (by omega) (by omega)) (H a6)
  | r + 1, o, a6, ho => br_f (nI_nlt (a := 8) (by omega) (by omega)) ⟨pk_in (o + 1) 9 (by omega), nm_e (nm_r (nI_1 _) (sv_72 H r (o + 1) _ (by omega)))⟩
theorem sv_63 {post : Int32 → St1 → Prop} {C : Nat → ob_Ob} {K k h ln0 n : Nat} {v : Int32} (hk : k < 2 ^ 30) (hkK : k ≤ K) (hd : hd_ok k h ln0 v n a8) {h' ln1 n' : Nat} {rs : List (Nat × Nat)} {pk : Bool} {R : Nat → Nat → ob_Ob} {L : Nat → Nat} (hh : h' ≤ 1) (hf : fi_ok (fi_g h' a7) ln1 rs pk n' R L) (hX : C = fi_prev R n') (hC : ob_all C a1 a2 a3 a4 a5) (hok : ∀ o, ob_ok (C o)) (H : ∀ u', st_in C n' C (K + 1) u' → post (nI n') u') : wX_save_63 post (nI n') (nI k) (nI h') (nI ln1) (fi_bef L n') rv sl aw wl ts fr fs 0 a1 a2 a3 a4 a5 a6 a7 a8 a9 a10 a11 a12 a13 a14 a15 := by
  unfold wX_save_63
  refine hd_write hk hd (fun a8' hd' => ⟨9, sv_72 (fun a6' => H _ ?_) 8 0 a6 rfl⟩)
  exact ⟨⟨R, L, pk, rs, h', ln1, k + 1, hh, by omega, rfl, rfl, rfl, rfl, rfl, hX, fun z => absurd rfl z, hf, hd'⟩, hC, hok⟩
theorem m_save {post : Int32 → St1 → Prop} {C X : Nat → ob_Ob} {n K : Nat} {y : Int32} {u : St1} (hK : K < 2 ^ 30) (hs : st_in C n X K u) (ht : st_tou X C u) (H0 : (y < 0 ∨ (¬ y < 0 ∧ ¬ y ≤ 2)) → post (-1) u) (H3 : y = 0 → n = 5 → post (-3) u) (H1 : ∀ u' m, ¬ y < 0 → y ≤ 2 → (y = 0 → n < 5 ∧ m = n + 1) → (¬ y = 0 → m = 1) → st_in C m C (K + 1) u' → post (nI m) u') : wpX_save post u y := by
  obtain ⟨hN, hf, ln, ll, rv, sl, aw, wl, ts, fr, fs, iu, a1, a2, a3, a4, a5, a6, a7, a8, a9, a10, a11, a12, a13, a14, a15⟩ := u
  obtain ⟨⟨R, L, pk, rs, h, ln0, k, h1, h2, rfl, rfl, rfl, rfl, rfl, rfl, h3, h4, h5⟩, hC, hok⟩ := hs
  obtain ⟨b1, b2, b3⟩ := fi_bound h4
  refine br_c (fun z => H0 (Or.inl z)) (fun z1 => br_c (fun z2 => ?_) (fun z2 => H0 (Or.inr ⟨z1, z2⟩)))
  obtain ⟨w, hw, hwy⟩ := nI_of2 (M := 2) (n := 2) rfl z1 z2
  have cases3 : w = 0 ∨ w = 1 ∨ w = 2 := by omega
  rcases cases3 with rfl | rfl | rfl
  · have y0 : y = 0 := hwy
    refine br_t y0 (pk_lt n 5 (fun c => ?_) (fun c => H3 y0 (by omega)))
    unfold wX_save_26
    rw [y0]
    have hsel : ∀ o, 1 ≤ o → o ≤ 8 → ((fun o => decide (¬ fi_prev R n o = C o)) o = true ↔ ¬ a6 o = 0) := by
      intro o o1 o2
      have := ht o o1 o2
      rw [this]
      by_cases e : fi_prev R n o = C o
      · rw [if_pos e]; simp [e]
      · rw [if_neg e]; simp [e]
    refine wr_rev0 (w := 3700) (C := C) (sel := fun o => decide (¬ fi_prev R n o = C o)) h1 (by omega) (by omega) hsel hC hok (fun sl' wl' a10' => ?_)
    have hP : ∀ o, 1 ≤ o → o ≤ 8 → ¬ (fun o => decide (¬ fi_prev R n o = C o)) o = true → C o = fi_prev R n o := by
      intro o _ _ z
      simp at z
      exact z.symm
    have hfi := fi_app (C := C) (sel := fun o => decide (¬ fi_prev R n o = C o)) h4 c hok hP
    refine br_t rfl ?_
    rw [nI_1]
    have ell : nI (ln0 + (en_bo C (fun o => decide (¬ fi_prev R n o = C o)) 8).length) = fi_bef (fun i => if i = n then ln0 + (en_bo C (fun o => decide (¬ fi_prev R n o = C o)) 8).length else L i) (n + 1) := by
      show _ = nI (if n = n then _ else _)
      rw [if_pos rfl]
    rw [ell]
    have hX : C = fi_prev (fun i => if i = n then C else R i) (n + 1) := by
      show C = (if n = n then C else R n)
      rw [if_pos rfl]
    exact sv_63 (by omega) h2 h5 h1 hfi hX hC hok (fun u' hu' => H1 u' (n + 1) z1 z2 (fun _ => ⟨c, rfl⟩) (fun z => absurd y0 z) hu')
  · have y0 : y = 1 := hwy
    refine br_f (by rw [y0]; decide) ?_
    unfold wX_save_26
    rw [y0]
    refine wr_rev1 (w := 3700) (C := C) h1 (by omega) hC hok (fun sl' wl' a10' => ?_)
    refine br_f (by decide) ?_
    exact sv_63 (C := C) (R := fun _ => C) (n' := 1) (L := fun _ => (en_bo C (fun _ => true) 8).length) (by omega) h2 h5 (by omega) (fi_one (h := 1 - h) hok) rfl hC hok (fun u' hu' => H1 u' 1 z1 z2 (fun z => by rw [y0] at z; exact absurd z (by decide)) (fun _ => rfl) hu')
  · have y0 : y = 2 := hwy
    refine br_f (by rw [y0]; decide) ?_
    unfold wX_save_26
    rw [y0]
    refine wr_rev2 (w := 3700) (C := C) h1 (by omega) hC hok (fun rs' sl' wl' a9' a10' g1 g2 => ?_)
    refine br_f (by decide) ?_
    exact sv_63 (C := C) (R := fun _ => C) (n' := 1) (L := fun _ => (en_nat (ru_ex rs').length ++ [58] ++ ru_by rs').length) (by omega) h2 h5 (by omega) (fi_two (h := 1 - h) hok g1 g2) rfl hC hok (fun u' hu' => H1 u' 1 z1 z2 (fun z => by rw [y0] at z; exact absurd z (by decide)) (fun _ => rfl) hu')
theorem hd_find {post : St1 → Prop} {k h ln0 n : Nat} {v : Int32} (hk : k < 2 ^ 30) (hd : hd_ok k h ln0 v n a8) (H : hd_ok k h ln0 v n (upd a8 (6 * (k % 2)) (nI (k + 1))) → post (nI k, nI h, nI ln0, v, nI n, sl, aw, wl, ts, fr, fs, 0, a1, a2, a3, a4, a5, a6, a7, upd a8 (6 * (k % 2)) (nI (k + 1)), a9, a10, a11, a12, a13, a14, a15)) : wpX_findHead post (hN, hf, ln, ll, rv, sl, aw, wl, ts, fr, fs, iu, a1, a2, a3, a4, a5, a6, a7, upd a8 (6 * (k % 2)) (nI (k + 1)), a9, a10, a11, a12, a13, a14, a15) := by
  obtain ⟨d1, d2, d3, d4, d5, d6, d7, m, d8, d9⟩ := hd
  have hd' : hd_ok k h ln0 v n (upd a8 (6 * (k % 2)) (nI (k + 1))) := by
    refine ⟨d1, ?_, ?_, ?_, ?_, ?_, ?_, m, d8, ?_⟩
    · rw [pk_un (by omega)]; exact d2
    · rw [pk_un (by omega)]; exact d3
    · rw [pk_un (by omega)]; exact d4
    · rw [pk_un (by omega)]; exact d5
    · rw [pk_un (by omega)]; exact d6
    · rw [pk_un (by omega)]; exact d7
    · rw [pk_un (by omega)]; exact d9
  have H := H hd'
  obtain ⟨_, q2, q3, q4, q5, q6, q7, m', q8, q9⟩ := hd'
  have hne : ¬ nI (k + 1) = nI m' := fun z => by have := (nI_eq (by omega) (by omega)).mp z; omega
  have c : k % 2 = 0 ∨ k % 2 = 1 := by omega
  have rd : ∀ s : Nat, s = 6 * ((k + 1) % 2) → wX_findHead_53 post (nI s) hN hf ln ll rv sl aw wl ts fr fs iu a1 a2 a3 a4 a5 a6 a7 (upd a8 (6 * (k % 2)) (nI (k + 1))) a9 a10 a11 a12 a13 a14 a15 := by
    intro s hs
    subst hs
    have e : ∀ i : Nat, i ≤ 5 → nI (6 * ((k + 1) % 2)) + nI i = nI (6 * ((k + 1) % 2) + i) := fun i _ => nI_add _ _
    have cc : ∀ i : Nat, i ≤ 5 → (nI (6 * ((k + 1) % 2)) + nI i).toNatClampNeg = 6 * ((k + 1) % 2) + i := fun i hi => by rw [e i hi, nI_clamp (by omega)]
    have vv : ∀ i : Nat, i ≤ 5 → vp_in (nI (6 * ((k + 1) % 2)) + nI i) 12 := fun i hi => pk_in (6 * ((k + 1) % 2) + i) 12 (by omega) (e i hi)
    have c0 : (nI (6 * ((k + 1) % 2))).toNatClampNeg = 6 * ((k + 1) % 2) := nI_clamp (by omega)
    exact ⟨pk_in (6 * ((k + 1) % 2)) 12 (by omega), nm_r (by rw [c0]; exact q2) ⟨vv 1 (by omega), nm_r ((congrArg _ (cc 1 (by omega))).trans q3) ⟨vv 2 (by omega), nm_r ((congrArg _ (cc 2 (by omega))).trans q4) ⟨vv 3 (by omega), nm_r ((congrArg _ (cc 3 (by omega))).trans q5) ⟨vv 4 (by omega), nm_r ((congrArg _ (cc 4 (by omega))).trans q6) H⟩⟩⟩⟩⟩
  unfold wpX_findHead
  dsimp only
  rcases c with c | c
  · have k1 : (k + 1) % 2 = 1 := by omega
    have z0 : upd a8 (6 * (k % 2)) (nI (k + 1)) 0 = nI (k + 1) := by rw [c]; exact pk_us
    rw [c] at q9
    have q9' : upd a8 (6 * (k % 2)) (nI (k + 1)) 5 = nI m' := by rw [c]; exact q9
    refine br_f ?_ (rd 6 (by omega))
    rw [z0, q9']
    exact hne
  · have k1 : (k + 1) % 2 = 0 := by omega
    have z0 : upd a8 (6 * (k % 2)) (nI (k + 1)) 6 = nI (k + 1) := by rw [c]; exact pk_us
    have z1 : upd a8 (6 * (k % 2)) (nI (k + 1)) 0 = nI k := by rw [k1] at q2; exact q2
    have z2 : upd a8 (6 * (k % 2)) (nI (k + 1)) 5 = nI k := by rw [k1] at q7; exact q7
    have z3 : upd a8 (6 * (k % 2)) (nI (k + 1)) 11 = nI m' := by
      have h9 := q9
      rw [show 6 * (k % 2) + 5 = 11 by omega] at h9
      exact h9
    refine br_t (by rw [z1, z2]) (br_f ?_ (rd 0 (by omega)))
    rw [z0, z3]
    exact hne
theorem bo_33 {post : Int32 → St1 → Prop} {C X : Nat → ob_Ob} {n K w : Nat} {y : Int32} {wi : Int32} (hK : K < 2 ^ 30) (hs : st_in C n X K (hN, hf, ln, ll, rv, sl, aw, wl, ts, fr, fs, iu, a1, a2, a3, a4, a5, a6, a7, a8, a9, a10, a11, a12, a13, a14, a15)) (hw : w ≤ 3700) (hwi : wi = nI w) (hy : y = 0 ∨ y = 1 ∨ y = 2) (H1 : ∀ u', st_in X n X K u' → post (nI n) u') : wX_breakOff_33 post y wi hN hf ln ll rv sl aw wl ts fr fs iu a1 a2 a3 a4 a5 a6 a7 a8 a9 a10 a11 a12 a13 a14 a15 := by
  obtain ⟨⟨R, L, pk, rs, h, ln0, k, h1, h2, rfl, rfl, rfl, rfl, rfl, rfl, h3, h4, h5⟩, hC, hok⟩ := hs
  obtain ⟨b1, b2, b3⟩ := fi_bound h4
  have hoX : ∀ o, ob_ok (fi_prev R n o) := by
    intro o
    cases n with
    | zero => exact ob_okno
    | succ j => exact h4.2.2.1 j o
  subst hwi
  unfold wX_breakOff_33
  have fin : ∀ (hf' sl' aw' wl' : Int32) (a7' a9' a10' : Nat → Int32), (∀ p, p < ln0 → fi_g h a7' p = fi_g h a7 p) → ∀ x4 : Int32, x4 = (6 : Int32) * (nI k &&& 1) → vp_in x4 12 ∧ ∀ a8' : Nat → Int32, a8' = upd a8 x4.toNatClampNeg (nI k + 1) → wpX_findHead (fun u => match u with | (hN, hf, ln, ll, rv, sl, aw, wl, ts, fr, fs, iu, a1, a2, a3, a4, a5, a6, a7, a8, a9, a10, a11, a12, a13, a14, a15) => wpX_load (fun u => match u with | (hN, hf, ln, ll, rv, sl, aw, wl, ts, fr, fs, iu, a1, a2, a3, a4, a5, a6, a7, a8, a9, a10, a11, a12, a13, a14, a15) => post rv (hN, hf, ln, ll, rv, sl, aw, wl, ts, fr, fs, iu, a1, a2, a3, a4, a5, a6, a7, a8, a9, a10, a11, a12, a13, a14, a15)) (hN, hf, ln, ll, rv, sl, aw, wl, ts, fr, fs, iu, a1, a2, a3, a4, a5, a6, a7, a8, a9, a10, a11, a12, a13, a14, a15) (rv - 1)) (nI k, hf', nI ln0, fi_bef L n, nI n, sl', aw', wl', 0, fr, fs, 0, a1, a2, a3, a4, a5, a6, a7', a8', a9', a10', a11, a12, a13, a14, a15) := by
    intro hf' sl' aw' wl' a7' a9' a10' hg
    refine nm_r (hd_slot (by omega)) ⟨pk_in (6 * (k % 2)) 12 (by omega), nm_r (e' := upd a8 (6 * (k % 2)) (nI (k + 1))) (by rw [nI_clamp (by omega), nI_1]) ?_⟩
    refine hd_find (by omega) h5 (fun hd' => ?_)
    have hfi := fi_mono h4 hg
    refine ld_load (j := n) (tv := 0) h1 hfi (Nat.le_refl _) ?_ (fun z => absurd rfl z) ?_ (fun sl' fr' fs' iu' a9' a1' a2' a3' a4' a5' a6' g1 g2 g3 => ?_)
    · cases n with
      | zero => exact Or.inl ⟨rfl, rfl⟩
      | succ m => exact Or.inr ⟨m, rfl, nI_pred m⟩
    · rw [if_pos rfl]
    · exact H1 _ ⟨⟨R, L, pk, rs, h, ln0, k, h1, h2, rfl, rfl, rfl, rfl, rfl, rfl, g1, hfi, hd'⟩, g2, hoX⟩
  rcases hy with y0 | y0 | y0
  · rw [y0]
    have hsel : ∀ o, 1 ≤ o → o ≤ 8 → ((fun o => decide (¬ a6 o = 0)) o = true ↔ ¬ a6 o = 0) := fun o _ _ => by simp
    exact wr_rev0 (w := w) (C := C) (sel := fun o => decide (¬ a6 o = 0)) h1 (by omega) hw hsel hC hok (fun sl' wl' a10' => fin _ _ _ _ _ _ _ (fun p hp => wr_f_lo hp))
  · rw [y0]
    have hlen : 0 + (en_rev (en_bo C (fun _ => true) 8) false (en_E C (fun _ => true) 0 8) (-1)).length ≤ 3700 := by
      have hb := en_bo_len (sel := fun _ => true) hok 8
      have hl := en_list_len (C := C) (sel := fun _ => true) (st := 0) (pk := false) (v := -1) hok (by omega)
      rw [en_rev, List.length_append]; omega
    exact wr_rev1 (w := w) (C := C) h1 hw hC hok (fun sl' wl' a10' => fin _ _ _ _ _ _ _ (fun p hp => wr_f_half h1 hlen (by omega) rfl))
  · rw [y0]
    refine wr_rev2 (w := w) (C := C) h1 hw hC hok (fun rs' sl' wl' a9' a10' g1 g2 => ?_)
    have hlen : 0 + (en_rev (en_nat (ru_ex rs').length ++ [58] ++ ru_by rs') true (en_E C (fun _ => true) 0 8) (-1)).length ≤ 3700 := by
      have hb := en_bo_len (sel := fun _ => true) hok 8
      have hl := en_list_len (C := C) (sel := fun _ => true) (st := 0) (pk := true) (v := -1) hok (by omega)
      have hx := ru_ex_len rs' g1
      have hy := ru_by_len rs'
      have hm : (ru_ex rs').length ≤ 432 := by rw [g2]; omega
      have e3 : (en_nat (ru_ex rs').length).length ≤ 3 := en_nat_len (k := 2) (by omega)
      simp only [en_rev, List.length_append, List.length_cons, List.length_nil]; omega
    exact fin _ _ _ _ _ _ _ (fun p hp => wr_f_half h1 hlen (by omega) rfl)
theorem m_breakOff {post : Int32 → St1 → Prop} {C X : Nat → ob_Ob} {n K : Nat} {y z : Int32} {u : St1} (hK : K < 2 ^ 30) (hs : st_in C n X K u) (H0 : (y < 0 ∨ (¬ y < 0 ∧ ¬ y ≤ 2)) → post (-1) u) (H1 : ∀ u', ¬ y < 0 → y ≤ 2 → st_in X n X K u' → post (nI n) u') : wpX_breakOff post u y z := by
  obtain ⟨hN, hf, ln, ll, rv, sl, aw, wl, ts, fr, fs, iu, a1, a2, a3, a4, a5, a6, a7, a8, a9, a10, a11, a12, a13, a14, a15⟩ := u
  refine br_c (fun z => H0 (Or.inl z)) (fun z1 => br_c (fun z2 => ?_) (fun z2 => H0 (Or.inr ⟨z1, z2⟩)))
  obtain ⟨w, hw, hwy⟩ := nI_of2 (M := 2) (n := 2) rfl z1 z2
  have hy : y = 0 ∨ y = 1 ∨ y = 2 := by
    have : w = 0 ∨ w = 1 ∨ w = 2 := by omega
    rcases this with rfl | rfl | rfl
    · exact Or.inl hwy
    · exact Or.inr (Or.inl hwy)
    · exact Or.inr (Or.inr hwy)
  have H1' : ∀ u', st_in X n X K u' → post (nI n) u' := fun u' h => H1 u' z1 z2 h
  refine br_c (fun c => br_c (fun d => ?_) (fun d => bo_33 (w := 3700) hK hs (by omega) rfl hy H1')) (fun c => bo_33 (w := 0) hK hs (by omega) rfl hy H1')
  have c' : ¬ z < 0 := by
    rw [Int32.lt_iff_toInt_lt]
    rw [Int32.le_iff_toInt_le] at c
    omega
  obtain ⟨v, hv, hvz⟩ := nI_of2 (M := 3700) (n := 3700) rfl c' d
  exact bo_33 (w := v) hK hs hv hvz hy H1'
def pr_cnt (C : Nat → ob_Ob) : Nat → Nat → Nat
  | 0, _ => 0
  | r + 1, o => (if (C o).1 = 0 then 0 else 1) + pr_cnt C r (o + 1)
theorem pr_cnt_le (C : Nat → ob_Ob) : ∀ r o, pr_cnt C r o ≤ r
  | 0, _ => Nat.le_refl _
  | r + 1, o => by
    have := pr_cnt_le C r (o + 1)
    rw [pr_cnt]
    by_cases c : (C o).1 = 0
    · rw [if_pos c]; omega
    · rw [if_neg c]; omega
theorem pr_4 {post : Int32 → Prop} {C : Nat → ob_Ob} (hC : ob_all C a1 a2 a3 a4 a5) (hfi : ∀ o, ob_fit (C o)) : ∀ (r o c : Nat), o + r = 8 → post (nI (c + pr_cnt C r (o + 1))) → wX_present_4 post hN hf ln ll rv sl aw wl ts fr fs iu a1 a2 a3 a4 a5 a6 a7 a8 a9 a10 a11 a12 a13 a14 a15 (r + 1) (nI c) (nI (o + 1))
  | 0, o, c, ho, H => br_t (nI_lt (a := 8) (by omega) (by omega)) H
  | r + 1, o, c, ho, H => by
    have h5 := (hfi (o + 1)).1
    refine br_f (nI_nlt (a := 8) (by omega) (by omega)) ⟨pk_in (o + 1) 9 (by omega), ?_⟩
    rw [nI_clamp (by omega), (hC (o + 1) (by omega) (by omega)).1]
    rw [pr_cnt] at H
    by_cases d : (C (o + 1)).1 = 0
    · rw [if_pos d, Nat.zero_add] at H
      exact br_t (by rw [d]; rfl) (nm_r (e' := nI c) (by simp) (nm_r (nI_1 _) (pr_4 hC hfi r (o + 1) c (by omega) H)))
    · rw [if_neg d, ← Nat.add_assoc] at H
      exact br_f (ob_kindne (c := 0) h5 (by omega) d) (nm_r (nI_1 _) (nm_r (nI_1 _) (pr_4 hC hfi r (o + 1) (c + 1) (by omega) H)))
theorem m_open {post : Int32 → St1 → Prop} {C X : Nat → ob_Ob} {n K : Nat} {x : Int32} {u : St1} (hs : st_in C n X K u) (H0 : (x < 0 ∨ (¬ x < 0 ∧ ¬ x < nI n)) → post (-1) u) (H1 : ∀ (Y : Nat → ob_Ob) (c : Nat) (u' : St1), ¬ x < 0 → x < nI n → c ≤ 8 → (x = nI n - 1 → Y = X) → st_in Y n X K u' → post (nI c) u') : wpX_open post u x := by
  obtain ⟨hN, hf, ln, ll, rv, sl, aw, wl, ts, fr, fs, iu, a1, a2, a3, a4, a5, a6, a7, a8, a9, a10, a11, a12, a13, a14, a15⟩ := u
  obtain ⟨⟨R, L, pk, rs, h, ln0, k, h1, h2, rfl, rfl, rfl, rfl, rfl, rfl, h3, h4, h5⟩, hC, hok⟩ := hs
  obtain ⟨b1, b2, b3⟩ := fi_bound h4
  refine br_c (fun z => H0 (Or.inl z)) (fun z1 => br_c (fun z2 => ?_) (fun z2 => H0 (Or.inr ⟨z1, z2⟩)))
  obtain ⟨r, hr, rfl⟩ := nI_of z1
  have hrn : r < n := (nI_ltI hr (by omega)).mp z2
  refine ld_load (j := r + 1) (tv := if nI r = nI n - 1 then 0 else 1) h1 h4 hrn (Or.inr ⟨r, rfl, rfl⟩) h3 rfl (fun sl' fr' fs' iu' a9' a1' a2' a3' a4' a5' a6' g1 g2 g3 => ?_)
  have hoY : ∀ o, ob_ok (fi_prev R (r + 1) o) := fun o => h4.2.2.1 r o
  refine ⟨9, pr_4 g2 (fun o => ob_okfit (hoY o)) 8 0 0 rfl ?_⟩
  have hle := pr_cnt_le (fi_prev R (r + 1)) 8 (0 + 1)
  refine H1 (fi_prev R (r + 1)) _ _ z1 z2 (by omega) (fun z => ?_) ⟨⟨R, L, pk, rs, h, ln0, k, h1, h2, rfl, rfl, rfl, rfl, rfl, rfl, g1, h4, h5⟩, g2, hoY⟩
  obtain ⟨m, rfl⟩ : ∃ m, n = m + 1 := ⟨n - 1, by omega⟩
  rw [nI_pred] at z
  have : r = m := (nI_eq hr (by omega)).mp z
  rw [this]
end
section
/-! the law: checks that don't concern a kind are passed over -/
variable {hN hf ln ll rv sl aw wl ts fr fs iu : Int32} {a1 a2 a3 a4 a5 a6 a7 a8 a9 a10 a11 a12 a13 a14 a15 : Nat → Int32}
variable {post : Int32 → Prop} {L : Nat} {xs : Nat → Int32} {J : Int32 → Int32 → Int32 → Int32 → Int32 → Int32 → Int32 → Int32 → Int32 → Int32 → Int32 → Int32 → Int32 → (Nat → Int32) → (Nat → Int32) → (Nat → Int32) → (Nat → Int32) → (Nat → Int32) → (Nat → Int32) → (Nat → Int32) → (Nat → Int32) → (Nat → Int32) → (Nat → Int32) → (Nat → Int32) → (Nat → Int32) → (Nat → Int32) → (Nat → Int32) → (Nat → Int32) → Prop} {x2 x5 x6 x7 x9 x10 x11 x12 x13 : Int32} {kc ks κ : Nat}
theorem la_1065 (hk : κ < 24) (h : κ ≠ 23) (H : J (x2 + 3) hN hf ln ll rv sl aw wl ts fr fs iu a1 a2 a3 a4 a5 a6 a7 a8 a9 a10 a11 a12 a13 a14 a15) : wL_law_1065 post L xs J x2 (nI κ) x6 x11 x12 kc ks hN hf ln ll rv sl aw wl ts fr fs iu a1 a2 a3 a4 a5 a6 a7 a8 a9 a10 a11 a12 a13 a14 a15 :=
  pk_eq κ 23 (fun z => absurd z h) (fun _ => nm_e H)
theorem la_976 (hk : κ < 24) (h : κ ≤ 19 ∨ 23 ≤ κ) (H : wL_law_1065 post L xs J x2 (nI κ) x6 x11 x12 kc ks hN hf ln ll rv sl aw wl ts fr fs iu a1 a2 a3 a4 a5 a6 a7 a8 a9 a10 a11 a12 a13 a14 a15) : wL_law_976 post L xs J x2 (nI κ) x6 x11 x12 kc ks hN hf ln ll rv sl aw wl ts fr fs iu a1 a2 a3 a4 a5 a6 a7 a8 a9 a10 a11 a12 a13 a14 a15 :=
  pk_le κ 19 (fun _ => H) (fun z => pk_le 23 κ (fun _ => H) (fun w => by omega))
theorem la_919 (hk : κ < 24) (h : κ ≠ 19) (H : wL_law_976 post L xs J x2 (nI κ) x6 x11 x12 kc ks hN hf ln ll rv sl aw wl ts fr fs iu a1 a2 a3 a4 a5 a6 a7 a8 a9 a10 a11 a12 a13 a14 a15) : wL_law_919 post L xs J x2 (nI κ) x5 x6 x11 x12 kc ks hN hf ln ll rv sl aw wl ts fr fs iu a1 a2 a3 a4 a5 a6 a7 a8 a9 a10 a11 a12 a13 a14 a15 :=
  pk_eq κ 19 (fun z => absurd z h) (fun _ => H)
theorem la_897 (hk : κ < 24) (h : κ ≠ 18) (H : wL_law_919 post L xs J x2 (nI κ) x5 x6 x11 x12 kc ks hN hf ln ll rv sl aw wl ts fr fs iu a1 a2 a3 a4 a5 a6 a7 a8 a9 a10 a11 a12 a13 a14 a15) : wL_law_897 post L xs J x2 (nI κ) x5 x6 x11 x12 kc ks hN hf ln ll rv sl aw wl ts fr fs iu a1 a2 a3 a4 a5 a6 a7 a8 a9 a10 a11 a12 a13 a14 a15 :=
  pk_eq κ 18 (fun z => absurd z h) (fun _ => H)
theorem la_850 (hk : κ < 24) (h : κ ≠ 17) (H : wL_law_897 post L xs J x2 (nI κ) x5 x6 x11 x12 kc ks hN hf ln ll rv sl aw wl ts fr fs iu a1 a2 a3 a4 a5 a6 a7 a8 a9 a10 a11 a12 a13 a14 a15) : wL_law_850 post L xs J x2 (nI κ) x5 x6 x9 x11 x12 x13 kc ks hN hf ln ll rv sl aw wl ts fr fs iu a1 a2 a3 a4 a5 a6 a7 a8 a9 a10 a11 a12 a13 a14 a15 :=
  pk_eq κ 17 (fun z => absurd z h) (fun _ => H)
theorem la_797 (hk : κ < 24) (h : κ ≠ 16) (H : wL_law_850 post L xs J x2 (nI κ) x5 x6 x9 x11 x12 x13 kc ks hN hf ln ll rv sl aw wl ts fr fs iu a1 a2 a3 a4 a5 a6 a7 a8 a9 a10 a11 a12 a13 a14 a15) : wL_law_797 post L xs J x2 (nI κ) x5 x6 x9 x10 x11 x12 x13 kc ks hN hf ln ll rv sl aw wl ts fr fs iu a1 a2 a3 a4 a5 a6 a7 a8 a9 a10 a11 a12 a13 a14 a15 :=
  pk_eq κ 16 (fun z => absurd z h) (fun _ => H)
theorem la_632 (hk : κ < 24) (h : κ ≤ 11 ∨ 16 ≤ κ) (H : wL_law_797 post L xs J x2 (nI κ) x5 x6 x9 x10 x11 x12 x13 kc ks hN hf ln ll rv sl aw wl ts fr fs iu a1 a2 a3 a4 a5 a6 a7 a8 a9 a10 a11 a12 a13 a14 a15) : wL_law_632 post L xs J x2 (nI κ) x5 x6 x7 x9 x10 x11 x12 x13 kc ks hN hf ln ll rv sl aw wl ts fr fs iu a1 a2 a3 a4 a5 a6 a7 a8 a9 a10 a11 a12 a13 a14 a15 :=
  pk_le κ 11 (fun _ => H) (fun z => pk_le 16 κ (fun _ => H) (fun w => by omega))
theorem la_483 (hk : κ < 24) (h : κ ≤ 7 ∨ 12 ≤ κ) (H : wL_law_632 post L xs J x2 (nI κ) x5 x6 x7 x9 x10 x11 x12 x13 kc ks hN hf ln ll rv sl aw wl ts fr fs iu a1 a2 a3 a4 a5 a6 a7 a8 a9 a10 a11 a12 a13 a14 a15) : wL_law_483 post L xs J x2 (nI κ) x5 x6 x7 x9 x10 x11 x12 x13 kc ks hN hf ln ll rv sl aw wl ts fr fs iu a1 a2 a3 a4 a5 a6 a7 a8 a9 a10 a11 a12 a13 a14 a15 :=
  pk_le κ 7 (fun _ => H) (fun z => pk_le 12 κ (fun _ => H) (fun w => by omega))
theorem la_388 (hk : κ < 24) (h : κ ≤ 5 ∨ 8 ≤ κ) (H : wL_law_483 post L xs J x2 (nI κ) x5 x6 x7 x9 x10 x11 x12 x13 kc ks hN hf ln ll rv sl aw wl ts fr fs iu a1 a2 a3 a4 a5 a6 a7 a8 a9 a10 a11 a12 a13 a14 a15) : wL_law_388 post L xs J x2 (nI κ) x5 x6 x7 x9 x10 x11 x12 x13 kc ks hN hf ln ll rv sl aw wl ts fr fs iu a1 a2 a3 a4 a5 a6 a7 a8 a9 a10 a11 a12 a13 a14 a15 :=
  pk_le κ 5 (fun _ => H) (fun z => pk_le 8 κ (fun _ => H) (fun w => by omega))
theorem la_319 (hk : κ < 24) (h : 6 ≤ κ) (H : wL_law_388 post L xs J x2 (nI κ) x5 x6 x7 x9 x10 x11 x12 x13 kc ks hN hf ln ll rv sl aw wl ts fr fs iu a1 a2 a3 a4 a5 a6 a7 a8 a9 a10 a11 a12 a13 a14 a15) : wL_law_319 post L xs J x2 (nI κ) x5 x6 x7 x9 x10 x11 x12 x13 kc ks hN hf ln ll rv sl aw wl ts fr fs iu a1 a2 a3 a4 a5 a6 a7 a8 a9 a10 a11 a12 a13 a14 a15 :=
  pk_le 6 κ (fun _ => H) (fun z => absurd z (by omega))
/-- x13: whether x5 is an object's number -/
theorem la_301 (H1 : ¬ ob_bad x5 → wL_law_319 post L xs J x2 (nI κ) x5 x6 x7 x9 x10 x11 x12 1 kc ks hN hf ln ll rv sl aw wl ts fr fs iu a1 a2 a3 a4 a5 a6 a7 a8 a9 a10 a11 a12 a13 a14 a15) (H0 : ob_bad x5 → wL_law_319 post L xs J x2 (nI κ) x5 x6 x7 x9 x10 x11 x12 0 kc ks hN hf ln ll rv sl aw wl ts fr fs iu a1 a2 a3 a4 a5 a6 a7 a8 a9 a10 a11 a12 a13 a14 a15) : wL_law_301 post L xs J x2 (nI κ) x5 x6 x7 x9 x10 x11 x12 kc ks hN hf ln ll rv sl aw wl ts fr fs iu a1 a2 a3 a4 a5 a6 a7 a8 a9 a10 a11 a12 a13 a14 a15 :=
  br_c (fun z => H0 (Or.inl z)) (fun z => br_c (fun w => H0 (Or.inr ⟨z, w⟩)) (fun w => H1 (fun b => by rcases b with b | b; exact z b; exact w b.2)))
/-- from the check behind the last one of kinds below 12 on, and so on -/
theorem la_e632 (hk : κ ≤ 11) (H : J (x2 + 3) hN hf ln ll rv sl aw wl ts fr fs iu a1 a2 a3 a4 a5 a6 a7 a8 a9 a10 a11 a12 a13 a14 a15) : wL_law_632 post L xs J x2 (nI κ) x5 x6 x7 x9 x10 x11 x12 x13 kc ks hN hf ln ll rv sl aw wl ts fr fs iu a1 a2 a3 a4 a5 a6 a7 a8 a9 a10 a11 a12 a13 a14 a15 :=
  la_632 (by omega) (by omega) (la_797 (by omega) (by omega) (la_850 (by omega) (by omega) (la_897 (by omega) (by omega) (la_919 (by omega) (by omega) (la_976 (by omega) (by omega) (la_1065 (by omega) (by omega) H))))))
theorem la_e797 (hk : κ ≤ 15) (H : J (x2 + 3) hN hf ln ll rv sl aw wl ts fr fs iu a1 a2 a3 a4 a5 a6 a7 a8 a9 a10 a11 a12 a13 a14 a15) : wL_law_797 post L xs J x2 (nI κ) x5 x6 x9 x10 x11 x12 x13 kc ks hN hf ln ll rv sl aw wl ts fr fs iu a1 a2 a3 a4 a5 a6 a7 a8 a9 a10 a11 a12 a13 a14 a15 :=
  la_797 (by omega) (by omega) (la_850 (by omega) (by omega) (la_897 (by omega) (by omega) (la_919 (by omega) (by omega) (la_976 (by omega) (by omega) (la_1065 (by omega) (by omega) H)))))
theorem la_e850 (hk : κ ≤ 16) (H : J (x2 + 3) hN hf ln ll rv sl aw wl ts fr fs iu a1 a2 a3 a4 a5 a6 a7 a8 a9 a10 a11 a12 a13 a14 a15) : wL_law_850 post L xs J x2 (nI κ) x5 x6 x9 x11 x12 x13 kc ks hN hf ln ll rv sl aw wl ts fr fs iu a1 a2 a3 a4 a5 a6 a7 a8 a9 a10 a11 a12 a13 a14 a15 :=
  la_850 (by omega) (by omega) (la_897 (by omega) (by omega) (la_919 (by omega) (by omega) (la_976 (by omega) (by omega) (la_1065 (by omega) (by omega) H))))
theorem la_e897 (hk : κ ≤ 17) (H : J (x2 + 3) hN hf ln ll rv sl aw wl ts fr fs iu a1 a2 a3 a4 a5 a6 a7 a8 a9 a10 a11 a12 a13 a14 a15) : wL_law_897 post L xs J x2 (nI κ) x5 x6 x11 x12 kc ks hN hf ln ll rv sl aw wl ts fr fs iu a1 a2 a3 a4 a5 a6 a7 a8 a9 a10 a11 a12 a13 a14 a15 :=
  la_897 (by omega) (by omega) (la_919 (by omega) (by omega) (la_976 (by omega) (by omega) (la_1065 (by omega) (by omega) H)))
theorem la_e919 (hk : κ ≤ 18) (H : J (x2 + 3) hN hf ln ll rv sl aw wl ts fr fs iu a1 a2 a3 a4 a5 a6 a7 a8 a9 a10 a11 a12 a13 a14 a15) : wL_law_919 post L xs J x2 (nI κ) x5 x6 x11 x12 kc ks hN hf ln ll rv sl aw wl ts fr fs iu a1 a2 a3 a4 a5 a6 a7 a8 a9 a10 a11 a12 a13 a14 a15 :=
  la_919 (by omega) (by omega) (la_976 (by omega) (by omega) (la_1065 (by omega) (by omega) H))
theorem la_e976 (hk : κ ≤ 19) (H : J (x2 + 3) hN hf ln ll rv sl aw wl ts fr fs iu a1 a2 a3 a4 a5 a6 a7 a8 a9 a10 a11 a12 a13 a14 a15) : wL_law_976 post L xs J x2 (nI κ) x6 x11 x12 kc ks hN hf ln ll rv sl aw wl ts fr fs iu a1 a2 a3 a4 a5 a6 a7 a8 a9 a10 a11 a12 a13 a14 a15 :=
  la_976 (by omega) (by omega) (la_1065 (by omega) (by omega) H)
theorem la_e483 (hk : κ ≤ 7) (H : J (x2 + 3) hN hf ln ll rv sl aw wl ts fr fs iu a1 a2 a3 a4 a5 a6 a7 a8 a9 a10 a11 a12 a13 a14 a15) : wL_law_483 post L xs J x2 (nI κ) x5 x6 x7 x9 x10 x11 x12 x13 kc ks hN hf ln ll rv sl aw wl ts fr fs iu a1 a2 a3 a4 a5 a6 a7 a8 a9 a10 a11 a12 a13 a14 a15 :=
  la_483 (by omega) (by omega) (la_e632 (by omega) H)
theorem la_e388 (hk : κ ≤ 5) (H : J (x2 + 3) hN hf ln ll rv sl aw wl ts fr fs iu a1 a2 a3 a4 a5 a6 a7 a8 a9 a10 a11 a12 a13 a14 a15) : wL_law_388 post L xs J x2 (nI κ) x5 x6 x7 x9 x10 x11 x12 x13 kc ks hN hf ln ll rv sl aw wl ts fr fs iu a1 a2 a3 a4 a5 a6 a7 a8 a9 a10 a11 a12 a13 a14 a15 :=
  la_388 (by omega) (by omega) (la_e483 (by omega) H)
/-- up to a kind's own check -/
theorem la_s483 (hk : κ < 24) (h : 8 ≤ κ) (H : wL_law_483 post L xs J x2 (nI κ) x5 x6 x7 x9 x10 x11 x12 x13 kc ks hN hf ln ll rv sl aw wl ts fr fs iu a1 a2 a3 a4 a5 a6 a7 a8 a9 a10 a11 a12 a13 a14 a15) : wL_law_319 post L xs J x2 (nI κ) x5 x6 x7 x9 x10 x11 x12 x13 kc ks hN hf ln ll rv sl aw wl ts fr fs iu a1 a2 a3 a4 a5 a6 a7 a8 a9 a10 a11 a12 a13 a14 a15 :=
  la_319 hk (by omega) (la_388 hk (by omega) H)
theorem la_s632 (hk : κ < 24) (h : 12 ≤ κ) (H : wL_law_632 post L xs J x2 (nI κ) x5 x6 x7 x9 x10 x11 x12 x13 kc ks hN hf ln ll rv sl aw wl ts fr fs iu a1 a2 a3 a4 a5 a6 a7 a8 a9 a10 a11 a12 a13 a14 a15) : wL_law_319 post L xs J x2 (nI κ) x5 x6 x7 x9 x10 x11 x12 x13 kc ks hN hf ln ll rv sl aw wl ts fr fs iu a1 a2 a3 a4 a5 a6 a7 a8 a9 a10 a11 a12 a13 a14 a15 :=
  la_s483 hk (by omega) (la_483 hk (by omega) H)
theorem la_s797 (hk : κ < 24) (h : 16 ≤ κ) (H : wL_law_797 post L xs J x2 (nI κ) x5 x6 x9 x10 x11 x12 x13 kc ks hN hf ln ll rv sl aw wl ts fr fs iu a1 a2 a3 a4 a5 a6 a7 a8 a9 a10 a11 a12 a13 a14 a15) : wL_law_319 post L xs J x2 (nI κ) x5 x6 x7 x9 x10 x11 x12 x13 kc ks hN hf ln ll rv sl aw wl ts fr fs iu a1 a2 a3 a4 a5 a6 a7 a8 a9 a10 a11 a12 a13 a14 a15 :=
  la_s632 hk (by omega) (la_632 hk (by omega) H)
theorem la_s850 (hk : κ < 24) (h : 17 ≤ κ) (H : wL_law_850 post L xs J x2 (nI κ) x5 x6 x9 x11 x12 x13 kc ks hN hf ln ll rv sl aw wl ts fr fs iu a1 a2 a3 a4 a5 a6 a7 a8 a9 a10 a11 a12 a13 a14 a15) : wL_law_319 post L xs J x2 (nI κ) x5 x6 x7 x9 x10 x11 x12 x13 kc ks hN hf ln ll rv sl aw wl ts fr fs iu a1 a2 a3 a4 a5 a6 a7 a8 a9 a10 a11 a12 a13 a14 a15 :=
  la_s797 hk (by omega) (la_797 hk (by omega) H)
theorem la_s897 (hk : κ < 24) (h : 18 ≤ κ) (H : wL_law_897 post L xs J x2 (nI κ) x5 x6 x11 x12 kc ks hN hf ln ll rv sl aw wl ts fr fs iu a1 a2 a3 a4 a5 a6 a7 a8 a9 a10 a11 a12 a13 a14 a15) : wL_law_319 post L xs J x2 (nI κ) x5 x6 x7 x9 x10 x11 x12 x13 kc ks hN hf ln ll rv sl aw wl ts fr fs iu a1 a2 a3 a4 a5 a6 a7 a8 a9 a10 a11 a12 a13 a14 a15 :=
  la_s850 hk (by omega) (la_850 hk (by omega) H)
theorem la_s919 (hk : κ < 24) (h : 19 ≤ κ) (H : wL_law_919 post L xs J x2 (nI κ) x5 x6 x11 x12 kc ks hN hf ln ll rv sl aw wl ts fr fs iu a1 a2 a3 a4 a5 a6 a7 a8 a9 a10 a11 a12 a13 a14 a15) : wL_law_319 post L xs J x2 (nI κ) x5 x6 x7 x9 x10 x11 x12 x13 kc ks hN hf ln ll rv sl aw wl ts fr fs iu a1 a2 a3 a4 a5 a6 a7 a8 a9 a10 a11 a12 a13 a14 a15 :=
  la_s897 hk (by omega) (la_897 hk (by omega) H)
theorem la_s976 (hk : κ < 24) (h : 20 ≤ κ) (H : wL_law_976 post L xs J x2 (nI κ) x6 x11 x12 kc ks hN hf ln ll rv sl aw wl ts fr fs iu a1 a2 a3 a4 a5 a6 a7 a8 a9 a10 a11 a12 a13 a14 a15) : wL_law_319 post L xs J x2 (nI κ) x5 x6 x7 x9 x10 x11 x12 x13 kc ks hN hf ln ll rv sl aw wl ts fr fs iu a1 a2 a3 a4 a5 a6 a7 a8 a9 a10 a11 a12 a13 a14 a15 :=
  la_s919 hk (by omega) (la_919 hk (by omega) H)
theorem la_s1065 (hk : κ < 24) (h : 23 ≤ κ) (H : wL_law_1065 post L xs J x2 (nI κ) x6 x11 x12 kc ks hN hf ln ll rv sl aw wl ts fr fs iu a1 a2 a3 a4 a5 a6 a7 a8 a9 a10 a11 a12 a13 a14 a15) : wL_law_319 post L xs J x2 (nI κ) x5 x6 x7 x9 x10 x11 x12 x13 kc ks hN hf ln ll rv sl aw wl ts fr fs iu a1 a2 a3 a4 a5 a6 a7 a8 a9 a10 a11 a12 a13 a14 a15 :=
  la_s976 hk (by omega) (la_976 hk (by omega) H)
/-- what stands behind the call -/
def la_after (post : Int32 → Prop) (L : Nat) (xs : Nat → Int32) (J : Int32 → Int32 → Int32 → Int32 → Int32 → Int32 → Int32 → Int32 → Int32 → Int32 → Int32 → Int32 → Int32 → (Nat → Int32) → (Nat → Int32) → (Nat → Int32) → (Nat → Int32) → (Nat → Int32) → (Nat → Int32) → (Nat → Int32) → (Nat → Int32) → (Nat → Int32) → (Nat → Int32) → (Nat → Int32) → (Nat → Int32) → (Nat → Int32) → (Nat → Int32) → (Nat → Int32) → Prop) (r0 x2 x3 x5 x6 x7 x9 x10 x11 : Int32) (kc ks : Nat) (r : Int32) (u : St1) : Prop := match u with
  | (hN, hf, ln, ll, rv, sl, aw, wl, ts, fr, fs, iu, a1, a2, a3, a4, a5, a6, a7, a8, a9, a10, a11, a12, a13, a14, a15) => ((0 ≤ r → (wL_law_301 post L xs J x2 x3 x5 x6 x7 x9 x10 x11 r kc ks hN hf ln ll rv sl aw wl ts fr fs iu a1 a2 a3 a4 a5 a6 a7 a8 a9 a10 a11 a12 a13 a14 a15)) ∧ (¬ 0 ≤ r → (((r < (-3) → (post 0)) ∧ (¬ r < (-3) → (wpL_look (fun r_560 u => match u with | (hN, hf, ln, ll, rv, sl, aw, wl, ts, fr, fs, iu, a1, a2, a3, a4, a5, a6, a7, a8, a9, a10, a11, a12, a13, a14, a15) => (((r_560 = r0 → (wL_law_301 post L xs J x2 x3 x5 x6 x7 x9 x10 x11 r kc ks hN hf ln ll rv sl aw wl ts fr fs iu a1 a2 a3 a4 a5 a6 a7 a8 a9 a10 a11 a12 a13 a14 a15)) ∧ (¬ r_560 = r0 → (post 0))))) (hN, hf, ln, ll, rv, sl, aw, wl, ts, fr, fs, iu, a1, a2, a3, a4, a5, a6, a7, a8, a9, a10, a11, a12, a13, a14, a15)))))))
def la_301u (post : Int32 → Prop) (L : Nat) (xs : Nat → Int32) (J : Int32 → Int32 → Int32 → Int32 → Int32 → Int32 → Int32 → Int32 → Int32 → Int32 → Int32 → Int32 → Int32 → (Nat → Int32) → (Nat → Int32) → (Nat → Int32) → (Nat → Int32) → (Nat → Int32) → (Nat → Int32) → (Nat → Int32) → (Nat → Int32) → (Nat → Int32) → (Nat → Int32) → (Nat → Int32) → (Nat → Int32) → (Nat → Int32) → (Nat → Int32) → (Nat → Int32) → Prop) (x2 x3 x5 x6 x7 x9 x10 x11 x12 : Int32) (kc ks : Nat) (u : St1) : Prop := match u with
  | (hN, hf, ln, ll, rv, sl, aw, wl, ts, fr, fs, iu, a1, a2, a3, a4, a5, a6, a7, a8, a9, a10, a11, a12, a13, a14, a15) => wL_law_301 post L xs J x2 x3 x5 x6 x7 x9 x10 x11 x12 kc ks hN hf ln ll rv sl aw wl ts fr fs iu a1 a2 a3 a4 a5 a6 a7 a8 a9 a10 a11 a12 a13 a14 a15
def la_J (J : Int32 → Int32 → Int32 → Int32 → Int32 → Int32 → Int32 → Int32 → Int32 → Int32 → Int32 → Int32 → Int32 → (Nat → Int32) → (Nat → Int32) → (Nat → Int32) → (Nat → Int32) → (Nat → Int32) → (Nat → Int32) → (Nat → Int32) → (Nat → Int32) → (Nat → Int32) → (Nat → Int32) → (Nat → Int32) → (Nat → Int32) → (Nat → Int32) → (Nat → Int32) → (Nat → Int32) → Prop) (x2 : Int32) (u : St1) : Prop := match u with
  | (hN, hf, ln, ll, rv, sl, aw, wl, ts, fr, fs, iu, a1, a2, a3, a4, a5, a6, a7, a8, a9, a10, a11, a12, a13, a14, a15) => J x2 hN hf ln ll rv sl aw wl ts fr fs iu a1 a2 a3 a4 a5 a6 a7 a8 a9 a10 a11 a12 a13 a14 a15
theorem la_pos {x3 r0 : Int32} {c : Nat} {u : St1} (hc : c < 2 ^ 31) (H : la_301u post L xs J x2 x3 x5 x6 x7 x9 x10 x11 (nI c) kc ks u) : la_after post L xs J r0 x2 x3 x5 x6 x7 x9 x10 x11 kc ks (nI c) u := by
  obtain ⟨hN, hf, ln, ll, rv, sl, aw, wl, ts, fr, fs, iu, a1, a2, a3, a4, a5, a6, a7, a8, a9, a10, a11, a12, a13, a14, a15⟩ := u
  exact br_t (nI_pos' hc) H
theorem la_neg {x3 r : Int32} {C X : Nat → ob_Ob} {n K : Nat} {u : St1} (hr : r = -1 ∨ r = -2 ∨ r = -3) (hs : st_in C n X K u) (H : ∀ u', st_in C n X K u' → la_301u post L xs J x2 x3 x5 x6 x7 x9 x10 x11 r kc ks u') : la_after post L xs J (lo_v C n X) x2 x3 x5 x6 x7 x9 x10 x11 kc ks r u := by
  have h1 : ¬ 0 ≤ r := by rcases hr with rfl | rfl | rfl <;> decide
  have h2 : ¬ r < -3 := by rcases hr with rfl | rfl | rfl <;> decide
  have go : wpL_look (fun r_560 u => match u with | (hN, hf, ln, ll, rv, sl, aw, wl, ts, fr, fs, iu, a1, a2, a3, a4, a5, a6, a7, a8, a9, a10, a11, a12, a13, a14, a15) => (((r_560 = lo_v C n X → (wL_law_301 post L xs J x2 x3 x5 x6 x7 x9 x10 x11 r kc ks hN hf ln ll rv sl aw wl ts fr fs iu a1 a2 a3 a4 a5 a6 a7 a8 a9 a10 a11 a12 a13 a14 a15)) ∧ (¬ r_560 = lo_v C n X → (post 0))))) u := by
    refine st_look hs (fun u' h3 _ => ?_)
    have H := H u' h3
    obtain ⟨hN, hf, ln, ll, rv, sl, aw, wl, ts, fr, fs, iu, a1, a2, a3, a4, a5, a6, a7, a8, a9, a10, a11, a12, a13, a14, a15⟩ := u'
    exact br_t rfl H
  obtain ⟨hN, hf, ln, ll, rv, sl, aw, wl, ts, fr, fs, iu, a1, a2, a3, a4, a5, a6, a7, a8, a9, a10, a11, a12, a13, a14, a15⟩ := u
  exact br_f h1 (br_f h2 go)
theorem st_mono {C X : Nat → ob_Ob} {n K K' : Nat} {u : St1} (h : K ≤ K') (hs : st_in C n X K u) : st_in C n X K' u := by
  obtain ⟨hN, hf, ln, ll, rv, sl, aw, wl, ts, fr, fs, iu, a1, a2, a3, a4, a5, a6, a7, a8, a9, a10, a11, a12, a13, a14, a15⟩ := u
  obtain ⟨⟨R, L, pk, rs, h', ln0, k, h1, h2, h3⟩, h4⟩ := hs
  exact ⟨⟨R, L, pk, rs, h', ln0, k, h1, by omega, h3⟩, h4⟩
end
section
/-! call: which method a kind is -/
variable {hN hf ln ll rv sl aw wl ts fr fs iu : Int32} {a1 a2 a3 a4 a5 a6 a7 a8 a9 a10 a11 a12 a13 a14 a15 : Nat → Int32}
variable {P : Int32 → St1 → Prop} {u : St1} {x y z : Int32} {κ : Nat}
theorem ca_0 (H : wpX_setNumber P u x z) : wpL_call P u (nI 0) x y z := by
  obtain ⟨hN, hf, ln, ll, rv, sl, aw, wl, ts, fr, fs, iu, a1, a2, a3, a4, a5, a6, a7, a8, a9, a10, a11, a12, a13, a14, a15⟩ := u
  exact br_f (by decide) (br_t rfl H)
theorem ca_1 (h1 : 1 ≤ κ) (h2 : κ < 3) (H : wpX_setLink P u x y) : wpL_call P u (nI κ) x y z := by
  obtain ⟨hN, hf, ln, ll, rv, sl, aw, wl, ts, fr, fs, iu, a1, a2, a3, a4, a5, a6, a7, a8, a9, a10, a11, a12, a13, a14, a15⟩ := u
  exact br_f (nI_ge (b := 3) h2 (by omega)) (br_f (nI_ne0 h1 (by omega)) H)
theorem ca_3 (h1 : 3 ≤ κ) (h2 : κ < 6) (H : wpX_begin P u x y) : wpL_call P u (nI κ) x y z := by
  obtain ⟨hN, hf, ln, ll, rv, sl, aw, wl, ts, fr, fs, iu, a1, a2, a3, a4, a5, a6, a7, a8, a9, a10, a11, a12, a13, a14, a15⟩ := u
  exact br_t (nI_le (a := 3) h1 (by omega)) (br_f (nI_ge (b := 6) h2 (by omega)) H)
theorem ca_6 (h1 : 6 ≤ κ) (h2 : κ < 8) (H : wpX_append P u x z) : wpL_call P u (nI κ) x y z := by
  obtain ⟨hN, hf, ln, ll, rv, sl, aw, wl, ts, fr, fs, iu, a1, a2, a3, a4, a5, a6, a7, a8, a9, a10, a11, a12, a13, a14, a15⟩ := u
  exact br_t (nI_le (a := 3) (by omega) (by omega)) (br_t (nI_le (a := 6) (by omega) (by omega)) (br_f (nI_ge (b := 8) h2 (by omega)) H))
theorem ca_8 (h1 : 8 ≤ κ) (h2 : κ < 12) (H : wpX_push P u x y z) : wpL_call P u (nI κ) x y z := by
  obtain ⟨hN, hf, ln, ll, rv, sl, aw, wl, ts, fr, fs, iu, a1, a2, a3, a4, a5, a6, a7, a8, a9, a10, a11, a12, a13, a14, a15⟩ := u
  exact br_t (nI_le (a := 3) (by omega) (by omega)) (br_t (nI_le (a := 6) (by omega) (by omega)) (br_t (nI_le (a := 8) (by omega) (by omega)) (br_f (nI_ge (b := 12) h2 (by omega)) H)))
theorem ca_12 (h1 : 12 ≤ κ) (h2 : κ < 16) (H : wpX_put P u x z) : wpL_call P u (nI κ) x y z := by
  obtain ⟨hN, hf, ln, ll, rv, sl, aw, wl, ts, fr, fs, iu, a1, a2, a3, a4, a5, a6, a7, a8, a9, a10, a11, a12, a13, a14, a15⟩ := u
  exact br_t (nI_le (a := 3) (by omega) (by omega)) (br_t (nI_le (a := 6) (by omega) (by omega)) (br_t (nI_le (a := 8) (by omega) (by omega)) (br_t (nI_le (a := 12) (by omega) (by omega)) (br_f (nI_ge (b := 16) h2 (by omega)) H))))
theorem ca_16 (H : wpX_pop P u x) : wpL_call P u (nI 16) x y z := by
  obtain ⟨hN, hf, ln, ll, rv, sl, aw, wl, ts, fr, fs, iu, a1, a2, a3, a4, a5, a6, a7, a8, a9, a10, a11, a12, a13, a14, a15⟩ := u
  exact br_t (by decide) (br_t (by decide) (br_t (by decide) (br_t (by decide) (br_t (by decide) (br_f (by decide) (br_t rfl H))))))
theorem ca_17 (H : wpX_remove P u x) : wpL_call P u (nI 17) x y z := by
  obtain ⟨hN, hf, ln, ll, rv, sl, aw, wl, ts, fr, fs, iu, a1, a2, a3, a4, a5, a6, a7, a8, a9, a10, a11, a12, a13, a14, a15⟩ := u
  exact br_t (by decide) (br_t (by decide) (br_t (by decide) (br_t (by decide) (br_t (by decide) (br_f (by decide) (br_f (by decide) H))))))
theorem ca_18 (H : wpX_sweep P u) : wpL_call P u (nI 18) x y z := by
  obtain ⟨hN, hf, ln, ll, rv, sl, aw, wl, ts, fr, fs, iu, a1, a2, a3, a4, a5, a6, a7, a8, a9, a10, a11, a12, a13, a14, a15⟩ := u
  exact br_t (by decide) (br_t (by decide) (br_t (by decide) (br_t (by decide) (br_t (by decide) (br_t (by decide) (br_f (by decide) (br_t rfl H)))))))
theorem ca_19 (H : wpX_open P u x) : wpL_call P u (nI 19) x y z := by
  obtain ⟨hN, hf, ln, ll, rv, sl, aw, wl, ts, fr, fs, iu, a1, a2, a3, a4, a5, a6, a7, a8, a9, a10, a11, a12, a13, a14, a15⟩ := u
  exact br_t (by decide) (br_t (by decide) (br_t (by decide) (br_t (by decide) (br_t (by decide) (br_t (by decide) (br_f (by decide) (br_f (by decide) H)))))))
theorem ca_20 (h1 : 20 ≤ κ) (h2 : κ < 23) (H : wpX_save P u y) : wpL_call P u (nI κ) x y z := by
  obtain ⟨hN, hf, ln, ll, rv, sl, aw, wl, ts, fr, fs, iu, a1, a2, a3, a4, a5, a6, a7, a8, a9, a10, a11, a12, a13, a14, a15⟩ := u
  exact br_t (nI_le (a := 3) (by omega) (by omega)) (br_t (nI_le (a := 6) (by omega) (by omega)) (br_t (nI_le (a := 8) (by omega) (by omega)) (br_t (nI_le (a := 12) (by omega) (by omega)) (br_t (nI_le (a := 16) (by omega) (by omega)) (br_t (nI_le (a := 18) (by omega) (by omega)) (br_t (nI_le (a := 20) (by omega) (by omega)) (br_f (nI_ge (b := 23) h2 (by omega)) H)))))))
theorem ca_23 (H : wpX_breakOff P u y z) : wpL_call P u (nI 23) x y z := by
  obtain ⟨hN, hf, ln, ll, rv, sl, aw, wl, ts, fr, fs, iu, a1, a2, a3, a4, a5, a6, a7, a8, a9, a10, a11, a12, a13, a14, a15⟩ := u
  exact br_t (by decide) (br_t (by decide) (br_t (by decide) (br_t (by decide) (br_t (by decide) (br_t (by decide) (br_t (by decide) (br_t (by decide) H)))))))
end
section
/-! the law's checks, kinds 0 to 11 -/
variable {hN hf ln ll rv sl aw wl ts fr fs iu : Int32} {a1 a2 a3 a4 a5 a6 a7 a8 a9 a10 a11 a12 a13 a14 a15 : Nat → Int32}
variable {post : Int32 → Prop} {L : Nat} {xs : Nat → Int32} {J : Int32 → Int32 → Int32 → Int32 → Int32 → Int32 → Int32 → Int32 → Int32 → Int32 → Int32 → Int32 → Int32 → (Nat → Int32) → (Nat → Int32) → (Nat → Int32) → (Nat → Int32) → (Nat → Int32) → (Nat → Int32) → (Nat → Int32) → (Nat → Int32) → (Nat → Int32) → (Nat → Int32) → (Nat → Int32) → (Nat → Int32) → (Nat → Int32) → (Nat → Int32) → (Nat → Int32) → Prop} {x2 x5 x6 x7 x9 x10 x11 : Int32} {kc ks κ : Nat}
/-- what kind and size have told before the call -/
def la_was (C : Nat → ob_Ob) (x5 x9 x10 : Int32) : Prop := (∃ o : Nat, 1 ≤ o ∧ o ≤ 8 ∧ x5 = nI o ∧ x9 = nI (C o).1 ∧ x10 = nI (C o).2.length) ∨ (ob_bad x5 ∧ x9 = -1 ∧ x10 = -1)
theorem la_wasO {C : Nat → ob_Ob} {o : Nat} (hw : la_was C x5 x9 x10) (h1 : 1 ≤ o) (h2 : o ≤ 8) (hx : x5 = nI o) : x9 = nI (C o).1 ∧ x10 = nI (C o).2.length := by
  rcases hw with ⟨o', k1, k2, k3, k4, k5⟩ | ⟨k, _⟩
  · have : o = o' := (nI_eq (by omega) (by omega)).mp (hx.symm.trans k3)
    subst this
    exact ⟨k4, k5⟩
  · exact (ob_notbad h1 h2 hx k).elim
theorem la_good {o : Nat} (h1 : 1 ≤ o) (h2 : o ≤ 8) (hx : x5 = nI o) {x12 : Int32} (H : wL_law_319 post L xs J x2 (nI κ) x5 x6 x7 x9 x10 x11 x12 1 kc ks hN hf ln ll rv sl aw wl ts fr fs iu a1 a2 a3 a4 a5 a6 a7 a8 a9 a10 a11 a12 a13 a14 a15) : wL_law_301 post L xs J x2 (nI κ) x5 x6 x7 x9 x10 x11 x12 kc ks hN hf ln ll rv sl aw wl ts fr fs iu a1 a2 a3 a4 a5 a6 a7 a8 a9 a10 a11 a12 a13 a14 a15 :=
  la_301 (fun _ => H) (fun b => (ob_notbad h1 h2 hx b).elim)
theorem la_Aneg {u : St1} {r : Int32} (hk : κ ≤ 5) (hr : r < 0) (hJ : la_J J (x2 + 3) u) : la_301u post L xs J x2 (nI κ) x5 x6 x7 x9 x10 x11 r kc ks u := by
  obtain ⟨hN, hf, ln, ll, rv, sl, aw, wl, ts, fr, fs, iu, a1, a2, a3, a4, a5, a6, a7, a8, a9, a10, a11, a12, a13, a14, a15⟩ := u
  have go : ∀ g : Int32, wL_law_319 post L xs J x2 (nI κ) x5 x6 x7 x9 x10 x11 r g kc ks hN hf ln ll rv sl aw wl ts fr fs iu a1 a2 a3 a4 a5 a6 a7 a8 a9 a10 a11 a12 a13 a14 a15 := fun g => br_f (nI_ge (b := 6) (by omega) (by omega)) (br_t hr (la_e388 hk hJ))
  exact la_301 (fun _ => go 1) (fun _ => go 0)
theorem la_Apos {u : St1} {C X : Nat → ob_Ob} {n K o c k s : Nat} (hk : κ ≤ 5) (h1 : 1 ≤ o) (h2 : o ≤ 8) (hx : x5 = nI o) (hc : c ≤ 5) (h9 : x9 = nI c) (hs : st_in C n X K u) (ek : (C o).1 = k) (ek0 : κ = 0 → k = 1) (ek1 : 1 ≤ κ → κ < 3 → k = 5) (ek3 : 3 ≤ κ → x6 = nI k) (es : (C o).2.length = s) (es0 : κ < 3 → s = 1) (es3 : 3 ≤ κ → s = 0) (hJ : la_J J (x2 + 3) u) : la_301u post L xs J x2 (nI κ) x5 x6 x7 x9 x10 x11 (nI c) kc ks u := by
  obtain ⟨hN, hf, ln, ll, rv, sl, aw, wl, ts, fr, fs, iu, a1, a2, a3, a4, a5, a6, a7, a8, a9, a10, a11, a12, a13, a14, a15⟩ := u
  refine la_good h1 h2 hx (br_f (nI_ge (b := 6) (by omega) (by omega)) (br_f (nI_pos (by omega)) (br_t h9.symm ?_)))
  have hC := hs.2.1
  rw [hx]
  refine vw_kind hC h1 h2 ?_
  rw [ek]
  have go : ∀ v : Int32, v = nI k → wL_law_364 post L xs J x2 (nI κ) (nI o) x6 x7 x9 x10 x11 (nI c) 1 v (nI k) kc ks hN hf ln ll rv sl aw wl ts fr fs iu a1 a2 a3 a4 a5 a6 a7 a8 a9 a10 a11 a12 a13 a14 a15 := by
    intro v hv
    refine br_t hv.symm (vw_size hC h1 h2 ?_)
    rw [es]
    refine pk_le 3 κ (fun z => ?_) (fun z => ?_)
    · rw [es3 z]
      exact br_t rfl (la_e388 hk hJ)
    · rw [es0 z]
      exact br_t rfl (la_e388 hk hJ)
  refine pk_eq κ 0 (fun z => ?_) (fun z => ?_)
  · exact go 1 (by rw [ek0 z]; rfl)
  · refine pk_le 3 κ (fun w => ?_) (fun w => ?_)
    · exact go x6 (ek3 w)
    · exact go 5 (by rw [ek1 (by omega) w]; rfl)
theorem fa_0 {C X : Nat → ob_Ob} {n K : Nat} {u : St1} (hs : st_in C n X K u) (hw : la_was C x5 x9 x10) (hJ : ∀ C' n' X' u', st_in C' n' X' (K + 1) u' → la_J J (x2 + 3) u') : wpL_call (la_after post L xs J (lo_v C n X) x2 (nI 0) x5 x6 x7 x9 x10 x11 kc ks) u (nI 0) x5 x6 x7 := by
  refine ca_0 (m_setNumber hs (fun hb => ?_) (fun o u' o1 o2 ho hs' => ?_))
  · exact la_neg (Or.inl rfl) hs (fun u' hs' => la_Aneg (by omega) (by decide) (hJ _ _ _ u' (st_mono (by omega) hs')))
  · have c5 := (ob_okfit (by obtain ⟨hN, hf, ln, ll, rv, sl, aw, wl, ts, fr, fs, iu, a1, a2, a3, a4, a5, a6, a7, a8, a9, a10, a11, a12, a13, a14, a15⟩ := u; exact hs.2.2 o : ob_ok (C o))).1
    exact la_pos (by omega) (la_Apos (o := o) (by omega) o1 o2 ho c5 (la_wasO hw o1 o2 ho).1 hs' (by rw [ob_set_s]) (fun _ => rfl) (fun z => by omega) (fun z => by omega) (by rw [ob_set_s]; rfl) (fun _ => rfl) (fun z => by omega) (hJ _ _ _ u' (st_mono (by omega) hs')))
theorem st_ok {C X : Nat → ob_Ob} {n K : Nat} {u : St1} (hs : st_in C n X K u) (o : Nat) : ob_ok (C o) := by
  obtain ⟨hN, hf, ln, ll, rv, sl, aw, wl, ts, fr, fs, iu, a1, a2, a3, a4, a5, a6, a7, a8, a9, a10, a11, a12, a13, a14, a15⟩ := u
  exact hs.2.2 o
theorem fa_1 {C X : Nat → ob_Ob} {n K : Nat} {u : St1} (h1 : 1 ≤ κ) (h2 : κ < 3) (hs : st_in C n X K u) (hw : la_was C x5 x9 x10) (hJ : ∀ C' n' X' u', st_in C' n' X' (K + 1) u' → la_J J (x2 + 3) u') : wpL_call (la_after post L xs J (lo_v C n X) x2 (nI κ) x5 x6 x7 x9 x10 x11 kc ks) u (nI κ) x5 x6 x7 := by
  refine ca_1 h1 h2 (m_setLink hs (fun hb => ?_) (fun o u' o1 o2 ho hs' => ?_))
  · exact la_neg (Or.inl rfl) hs (fun u' hs' => la_Aneg (by omega) (by decide) (hJ _ _ _ u' (st_mono (by omega) hs')))
  · have c5 := (ob_okfit (st_ok hs o)).1
    exact la_pos (by omega) (la_Apos (o := o) (by omega) o1 o2 ho c5 (la_wasO hw o1 o2 ho).1 hs' (by rw [ob_set_s]) (fun z => by omega) (fun _ _ => rfl) (fun z => by omega) (by rw [ob_set_s]; rfl) (fun _ => rfl) (fun z => by omega) (hJ _ _ _ u' (st_mono (by omega) hs')))
theorem fa_3 {C X : Nat → ob_Ob} {n K : Nat} {u : St1} (h1 : 3 ≤ κ) (h2 : κ < 6) (hs : st_in C n X K u) (hw : la_was C x5 x9 x10) (hJ : ∀ C' n' X' u', st_in C' n' X' (K + 1) u' → la_J J (x2 + 3) u') : wpL_call (la_after post L xs J (lo_v C n X) x2 (nI κ) x5 x6 x7 x9 x10 x11 kc ks) u (nI κ) x5 x6 x7 := by
  refine ca_3 h1 h2 (m_begin hs ?_ (fun o k u' o1 o2 ho k1 k2 hs' => ?_))
  · exact la_neg (Or.inl rfl) hs (fun u' hs' => la_Aneg (by omega) (by decide) (hJ _ _ _ u' (st_mono (by omega) hs')))
  · have c5 := (ob_okfit (st_ok hs o)).1
    exact la_pos (by omega) (la_Apos (o := o) (by omega) o1 o2 ho c5 (la_wasO hw o1 o2 ho).1 hs' (by rw [ob_set_s]) (fun z => by omega) (fun z w => by omega) (fun _ => k2) (by rw [ob_set_s]; rfl) (fun z => by omega) (fun _ => rfl) (hJ _ _ _ u' (st_mono (by omega) hs')))
/-- append: what the check asks -/
theorem la_417 {x12 x13 : Int32} (hk : κ ≤ 7) (h : x12 = -1) (H : J (x2 + 3) hN hf ln ll rv sl aw wl ts fr fs iu a1 a2 a3 a4 a5 a6 a7 a8 a9 a10 a11 a12 a13 a14 a15) : wL_law_417 post L xs J x2 (nI κ) x5 x6 x7 x9 x10 x11 x12 x13 kc ks hN hf ln ll rv sl aw wl ts fr fs iu a1 a2 a3 a4 a5 a6 a7 a8 a9 a10 a11 a12 a13 a14 a15 :=
  br_t h (la_e483 hk H)
theorem fa_6 {C X : Nat → ob_Ob} {n K : Nat} {u : St1} (h1 : 6 ≤ κ) (h2 : κ < 8) (hs : st_in C n X K u) (hw : la_was C x5 x9 x10) (hJ : ∀ C' n' X' u', st_in C' n' X' (K + 1) u' → la_J J (x2 + 3) u') : wpL_call (la_after post L xs J (lo_v C n X) x2 (nI κ) x5 x6 x7 x9 x10 x11 kc ks) u (nI κ) x5 x6 x7 := by
  refine ca_6 h1 h2 (m_append hs (fun hb => ?_) (fun o o1 o2 ho z1 z2 k2 => ?_) (fun o o1 o2 ho z1 z2 k2 k6 => ?_) (fun o u' o1 o2 ho z1 z2 k2 k6 hs' => ?_))
  · refine la_neg (Or.inl rfl) hs (fun u' hs' => ?_)
    have hj := hJ _ _ _ u' (st_mono (by omega) hs')
    obtain ⟨hN, hf, ln, ll, rv, sl, aw, wl, ts, fr, fs, iu, a1, a2, a3, a4, a5, a6, a7, a8, a9, a10, a11, a12, a13, a14, a15⟩ := u'
    refine la_301 (fun g => la_319 (by omega) h1 ?_) (fun g => la_319 (by omega) h1 ?_)
    · refine br_f (nI_ge (a := 5) (by omega) (by omega)) (br_f (nI_ge (b := 8) h2 (by omega)) (br_f (by decide) (br_c (fun _ => la_417 (by omega) rfl hj) (fun w => br_f ?_ (la_417 (by omega) rfl hj)))))
      rcases hb with b | b | b
      · exact absurd b g
      · exact absurd b w
      · exact b
    · exact br_f (nI_ge (a := 5) (by omega) (by omega)) (br_f (nI_ge (b := 8) h2 (by omega)) (br_t rfl (la_417 (by omega) rfl hj)))
  · have c5 := (ob_okfit (st_ok hs o)).1
    obtain ⟨e9, e10⟩ := la_wasO hw o1 o2 ho
    refine la_neg (Or.inr (Or.inl rfl)) hs (fun u' hs' => ?_)
    have hj := hJ _ _ _ u' (st_mono (by omega) hs')
    obtain ⟨hN, hf, ln, ll, rv, sl, aw, wl, ts, fr, fs, iu, a1, a2, a3, a4, a5, a6, a7, a8, a9, a10, a11, a12, a13, a14, a15⟩ := u'
    exact la_good o1 o2 ho (la_319 (by omega) h1 (br_f (nI_ge (a := 5) (by omega) (by omega)) (br_f (nI_ge (b := 8) h2 (by omega)) (br_f (by decide) (br_f z1 (br_t z2 (br_f (by rw [e9]; exact ob_kindne (c := 2) c5 (by omega) k2) (br_t rfl (la_e483 (by omega) hj)))))))))
  · obtain ⟨e9, e10⟩ := la_wasO hw o1 o2 ho
    refine la_neg (Or.inr (Or.inr rfl)) hs (fun u' hs' => ?_)
    have hj := hJ _ _ _ u' (st_mono (by omega) hs')
    obtain ⟨hN, hf, ln, ll, rv, sl, aw, wl, ts, fr, fs, iu, a1, a2, a3, a4, a5, a6, a7, a8, a9, a10, a11, a12, a13, a14, a15⟩ := u'
    exact la_good o1 o2 ho (la_319 (by omega) h1 (br_f (nI_ge (a := 5) (by omega) (by omega)) (br_f (nI_ge (b := 8) h2 (by omega)) (br_f (by decide) (br_f z1 (br_t z2 (br_t (by rw [e9, k2]; rfl) (br_t (by rw [e10, k6]; rfl) (br_t rfl (la_e483 (by omega) hj))))))))))
  · obtain ⟨e9, e10⟩ := la_wasO hw o1 o2 ho
    refine la_pos (by omega) ?_
    have hj := hJ _ _ _ u' (st_mono (by omega) hs')
    have hfi : ∀ j, ob_fit (ob_set C o (2, (C o).2 ++ [(3, x7, 0)]) j) := fun j => ob_okfit (st_ok hs' j)
    obtain ⟨hN, hf, ln, ll, rv, sl, aw, wl, ts, fr, fs, iu, a1, a2, a3, a4, a5, a6, a7, a8, a9, a10, a11, a12, a13, a14, a15⟩ := u'
    refine la_good o1 o2 ho (la_319 (by omega) h1 (br_f (nI_ge (a := 5) (by omega) (by omega)) (br_f (nI_ge (b := 8) h2 (by omega)) (br_f (by decide) (br_f z1 (br_t z2 (br_t (by rw [e9, k2]; rfl) (br_f ?_ (br_t ?_ ?_)))))))))
    · rw [e10]
      exact fun z => by have := (nI_eq (b := 6) (by omega) (by omega)).mp z; omega
    · rw [e10, nI_1]
    · rw [ho, e10]
      refine vw_value hs'.2.1 hfi o1 o2 (by omega) (br_t ?_ (la_e483 (by omega) hj))
      rw [ob_set_s, ob_val]
      simp
end
section
/-! the law's checks, kinds 8 to 15 -/
variable {hN hf ln ll rv sl aw wl ts fr fs iu : Int32} {a1 a2 a3 a4 a5 a6 a7 a8 a9 a10 a11 a12 a13 a14 a15 : Nat → Int32}
variable {post : Int32 → Prop} {L : Nat} {xs : Nat → Int32} {J : Int32 → Int32 → Int32 → Int32 → Int32 → Int32 → Int32 → Int32 → Int32 → Int32 → Int32 → Int32 → Int32 → (Nat → Int32) → (Nat → Int32) → (Nat → Int32) → (Nat → Int32) → (Nat → Int32) → (Nat → Int32) → (Nat → Int32) → (Nat → Int32) → (Nat → Int32) → (Nat → Int32) → (Nat → Int32) → (Nat → Int32) → (Nat → Int32) → (Nat → Int32) → (Nat → Int32) → Prop} {x2 x5 x6 x7 x9 x10 x11 : Int32} {kc ks κ : Nat}
theorem la_483f {x12 : Int32} (h1 : 8 ≤ κ) (h2 : κ < 12) (hp : pu_fits x5 x6 x7) (H : wL_law_542 post L xs J x2 (nI κ) x5 x6 x7 x9 x10 x11 x12 1 kc ks hN hf ln ll rv sl aw wl ts fr fs iu a1 a2 a3 a4 a5 a6 a7 a8 a9 a10 a11 a12 a13 a14 a15) : wL_law_483 post L xs J x2 (nI κ) x5 x6 x7 x9 x10 x11 x12 1 kc ks hN hf ln ll rv sl aw wl ts fr fs iu a1 a2 a3 a4 a5 a6 a7 a8 a9 a10 a11 a12 a13 a14 a15 := by
  obtain ⟨o, k, o1, o2, ho, k1, k2, hi⟩ := hp
  refine br_f (nI_ge (a := 7) (by omega) (by omega)) (br_f (nI_ge (b := 12) h2 (by omega)) (br_f (by decide) ?_))
  rcases hi with hi | ⟨hi, b, hb, hz⟩ | ⟨hi, t, t1, t2, hz⟩
  · exact br_t (by rw [k2, hi]; rfl) H
  · refine br_f (by rw [k2, hi]; decide) (br_t (by rw [k2, hi]; rfl) (br_f (by rw [hz]; exact nI_pos (by omega)) (br_t (by rw [hz]; exact nI_lt (b := 64) hb (by omega)) H)))
  · refine br_f (by rw [k2, hi]; decide) (br_f (by rw [k2, hi]; decide) (br_t (by rw [k2, hi]; rfl) (br_f (by rw [hz]; exact nI_nlt (b := 1) t1 (by omega)) (br_f (by rw [hz]; exact nI_nlt (a := 8) t2 (by omega)) H))))
theorem la_523n {x12 : Int32} {o : Nat} (o1 : 1 ≤ o) (o2 : o ≤ 8) (ho : x5 = nI o) (hp : ¬ pu_fits x5 x6 x7) (H : wL_law_546 post L xs J x2 (nI κ) x5 x6 x7 x9 x10 x11 x12 1 kc ks hN hf ln ll rv sl aw wl ts fr fs iu a1 a2 a3 a4 a5 a6 a7 a8 a9 a10 a11 a12 a13 a14 a15) : wL_law_523 post L xs J x2 (nI κ) x5 x6 x7 x9 x10 x11 x12 1 kc ks hN hf ln ll rv sl aw wl ts fr fs iu a1 a2 a3 a4 a5 a6 a7 a8 a9 a10 a11 a12 a13 a14 a15 := by
  refine br_c (fun z => br_c (fun _ => H) (fun w1 => br_c (fun _ => H) (fun w2 => (hp ?_).elim))) (fun _ => H)
  rcases ob_isobj x7 with ⟨t, t1, t2, ht⟩ | hb
  · exact ⟨o, 2, o1, o2, ho, by omega, z, Or.inr (Or.inr ⟨rfl, t, t1, t2, ht⟩)⟩
  · rcases hb with b | b
    · exact absurd b w1
    · exact absurd b.2 w2
theorem la_483n {x12 : Int32} {o : Nat} (h1 : 8 ≤ κ) (h2 : κ < 12) (o1 : 1 ≤ o) (o2 : o ≤ 8) (ho : x5 = nI o) (hp : ¬ pu_fits x5 x6 x7) (H : wL_law_546 post L xs J x2 (nI κ) x5 x6 x7 x9 x10 x11 x12 1 kc ks hN hf ln ll rv sl aw wl ts fr fs iu a1 a2 a3 a4 a5 a6 a7 a8 a9 a10 a11 a12 a13 a14 a15) : wL_law_483 post L xs J x2 (nI κ) x5 x6 x7 x9 x10 x11 x12 1 kc ks hN hf ln ll rv sl aw wl ts fr fs iu a1 a2 a3 a4 a5 a6 a7 a8 a9 a10 a11 a12 a13 a14 a15 := by
  have h523 := la_523n (xs := xs) (L := L) o1 o2 ho hp H
  refine br_f (nI_ge (a := 7) (by omega) (by omega)) (br_f (nI_ge (b := 12) h2 (by omega)) (br_f (by decide) (br_c (fun z => (hp ?_).elim) (fun _ => br_c (fun z => br_c (fun _ => h523) (fun w1 => br_c (fun w2 => (hp ?_).elim) (fun _ => h523))) (fun _ => h523)))))
  · exact ⟨o, 0, o1, o2, ho, by omega, z, Or.inl rfl⟩
  · obtain ⟨b, hb, rfl⟩ := nI_of w1
    have : b < 64 := (nI_ltI (b := 64) hb (by omega)).mp w2
    exact ⟨o, 1, o1, o2, ho, by omega, z, Or.inr (Or.inl ⟨rfl, b, this, rfl⟩)⟩
theorem fa_8 {C X : Nat → ob_Ob} {n K : Nat} {u : St1} (h1 : 8 ≤ κ) (h2 : κ < 12) (hs : st_in C n X K u) (hw : la_was C x5 x9 x10) (hJ : ∀ C' n' X' u', st_in C' n' X' (K + 1) u' → la_J J (x2 + 3) u') : wpL_call (la_after post L xs J (lo_v C n X) x2 (nI κ) x5 x6 x7 x9 x10 x11 kc ks) u (nI κ) x5 x6 x7 := by
  refine ca_8 h1 h2 (m_push hs (fun hb => ?_) (fun o o1 o2 ho hp k3 => ?_) (fun o o1 o2 ho hp k3 k4 => ?_) (fun o k u' o1 o2 ho hp kk hy k3 k4 hs' => ?_))
  · refine la_neg (Or.inl rfl) hs (fun u' hs' => ?_)
    have hj := hJ _ _ _ u' (st_mono (by omega) hs')
    obtain ⟨hN, hf, ln, ll, rv, sl, aw, wl, ts, fr, fs, iu, a1, a2, a3, a4, a5, a6, a7, a8, a9, a10, a11, a12, a13, a14, a15⟩ := u'
    have e546 : ∀ g : Int32, wL_law_546 post L xs J x2 (nI κ) x5 x6 x7 x9 x10 x11 (-1) g kc ks hN hf ln ll rv sl aw wl ts fr fs iu a1 a2 a3 a4 a5 a6 a7 a8 a9 a10 a11 a12 a13 a14 a15 := fun g => br_t rfl (br_t rfl (la_e632 (by omega) hj))
    refine la_301 (fun g => la_s483 (by omega) h1 ?_) (fun g => la_s483 (by omega) h1 ?_)
    · rcases ob_isobj x5 with ⟨o, o1, o2, ho⟩ | b
      · exact la_483n h1 h2 o1 o2 ho hb (e546 1)
      · exact absurd b g
    · exact br_f (nI_ge (a := 7) (by omega) (by omega)) (br_f (nI_ge (b := 12) h2 (by omega)) (br_t rfl (e546 0)))
  · have c5 := (ob_okfit (st_ok hs o)).1
    obtain ⟨e9, e10⟩ := la_wasO hw o1 o2 ho
    refine la_neg (Or.inr (Or.inl rfl)) hs (fun u' hs' => ?_)
    have hj := hJ _ _ _ u' (st_mono (by omega) hs')
    obtain ⟨hN, hf, ln, ll, rv, sl, aw, wl, ts, fr, fs, iu, a1, a2, a3, a4, a5, a6, a7, a8, a9, a10, a11, a12, a13, a14, a15⟩ := u'
    exact la_good o1 o2 ho (la_s483 (by omega) h1 (la_483f h1 h2 hp (br_f (by decide) (br_f (by rw [e9]; exact ob_kindne (c := 3) c5 (by omega) k3) (br_t rfl (la_e632 (by omega) hj))))))
  · obtain ⟨e9, e10⟩ := la_wasO hw o1 o2 ho
    refine la_neg (Or.inr (Or.inr rfl)) hs (fun u' hs' => ?_)
    have hj := hJ _ _ _ u' (st_mono (by omega) hs')
    obtain ⟨hN, hf, ln, ll, rv, sl, aw, wl, ts, fr, fs, iu, a1, a2, a3, a4, a5, a6, a7, a8, a9, a10, a11, a12, a13, a14, a15⟩ := u'
    exact la_good o1 o2 ho (la_s483 (by omega) h1 (la_483f h1 h2 hp (br_f (by decide) (br_t (by rw [e9, k3]; rfl) (br_t (by rw [e10, k4]; rfl) (br_t rfl (la_e632 (by omega) hj)))))))
  · obtain ⟨e9, e10⟩ := la_wasO hw o1 o2 ho
    refine la_pos (by omega) ?_
    have hj := hJ _ _ _ u' (st_mono (by omega) hs')
    have hfi : ∀ j, ob_fit (ob_set C o (3, (C o).2 ++ [(k, x7, 0)]) j) := fun j => ob_okfit (st_ok hs' j)
    obtain ⟨hN, hf, ln, ll, rv, sl, aw, wl, ts, fr, fs, iu, a1, a2, a3, a4, a5, a6, a7, a8, a9, a10, a11, a12, a13, a14, a15⟩ := u'
    refine la_good o1 o2 ho (la_s483 (by omega) h1 (la_483f h1 h2 hp (br_f (by decide) (br_t (by rw [e9, k3]; rfl) (br_f ?_ (br_t ?_ ?_))))))
    · rw [e10]
      exact fun z => by have := (nI_eq (b := 4) (by omega) (by omega)).mp z; omega
    · rw [e10, nI_1]
    · rw [ho, e10]
      refine vw_value hs'.2.1 hfi o1 o2 (by omega) (br_t ?_ (vw_vk hs'.2.1 hfi o1 o2 (by omega) (br_t ?_ (la_e632 (by omega) hj))))
      · rw [ob_set_s, ob_val]
        simp
      · rw [ob_set_s, ob_vk, hy]
        simp
/-- put's table: the keys rise -/
theorem pt_rise {l : List ob_It} {i : Nat} {a b : ob_It} (h : l.Pairwise (fun a b => a.2.2 < b.2.2)) (ha : l[i]? = some a) (hb : l[i + 1]? = some b) : a.2.2 < b.2.2 := by
  have h1 : i + 1 < l.length := by
    rcases Nat.lt_or_ge (i + 1) l.length with z | z
    · exact z
    · rw [List.getElem?_eq_none z] at hb; simp at hb
  have := List.pairwise_iff_getElem.mp h i (i + 1) (by omega) h1 (by omega)
  rw [List.getElem?_eq_getElem (by omega), Option.some.injEq] at ha
  rw [List.getElem?_eq_getElem h1, Option.some.injEq] at hb
  rw [← ha, ← hb]
  exact this
theorem la_662 {C : Nat → ob_Ob} {its : List ob_It} {c : Nat} (h1 : 12 ≤ κ) (h2 : κ < 16) (hc1 : 64 ≤ c) (hc2 : c < 576) (hx : x5 = nI c) (hC : ob_all C a1 a2 a3 a4 a5) (hfi : ∀ j, ob_fit (C j)) (ho : C (c / 64) = (4, its)) (hok : ob_ok (4, its)) (hm : (2 * (c % 2), x7, c % 64 / 2) ∈ its) {x13 : Int32} (hJ : J (x2 + 3) hN hf ln ll rv sl aw wl ts fr fs iu a1 a2 a3 a4 a5 a6 a7 a8 a9 a10 a11 a12 a13 a14 a15) : ∀ (r i : Nat) (f : Int32), i + r = its.length → (f = 0 ∨ f = 1) → (f = 0 → ∀ j, j < i → ¬ its[j]? = some (2 * (c % 2), x7, c % 64 / 2)) → wL_law_662 post L xs J x2 (nI κ) x5 x6 x7 x9 x10 x11 (nI its.length) x13 (nI (c / 64)) kc ks hN hf ln ll rv sl aw wl ts fr fs iu a1 a2 a3 a4 a5 a6 a7 a8 a9 a10 a11 a12 a13 a14 a15 (r + 1) f (nI i)
  | 0, i, f, hi, hf01, hfn => by
    obtain ⟨l3, g2, g3⟩ := ob_ok4 hok rfl
    dsimp only at l3
    have o1 : 1 ≤ c / 64 := by omega
    have o2 : c / 64 ≤ 8 := by omega
    refine br_t (nI_le (by omega) (by omega)) (br_f (fun z => ?_) (vw_kind hC o1 o2 ?_))
    · obtain ⟨j, hj⟩ := List.mem_iff_getElem?.mp hm
      refine hfn z j ?_ hj
      rcases Nat.lt_or_ge j its.length with w | w
      · omega
      · rw [List.getElem?_eq_none w] at hj; simp at hj
    · rw [ho]
      refine br_t rfl (vw_size hC o1 o2 ?_)
      rw [ho]
      exact br_t rfl (br_t (nI_le (b := 3) (by omega) (by omega)) (la_e797 (by omega) hJ))
  | r + 1, i, f, hi, hf01, hfn => by
    obtain ⟨l3, g2, g3⟩ := ob_ok4 hok rfl
    dsimp only at l3 g2 g3
    have o1 : 1 ≤ c / 64 := by omega
    have o2 : c / 64 ≤ 8 := by omega
    have g : its[i]? = some its[i] := List.getElem?_eq_getElem (by omega)
    have kb := (g2 _ (List.mem_of_getElem? g)).1
    have ek : ob_key (C (c / 64)) i = nI its[i].2.2 := by rw [ho, ob_key, if_pos rfl, g]
    have ev : ob_val (C (c / 64)) i = its[i].2.1 := by rw [ho, ob_val, g]
    have evk : ob_vk (C (c / 64)) i = nI its[i].1 := by rw [ho, ob_vk, g]
    have vk2 : its[i].1 ≤ 2 := by
      rcases (g2 _ (List.mem_of_getElem? g)).2 with w | w <;> omega
    have next : ∀ f' : Int32, (f' = 0 ∨ f' = 1) → (f' = 0 → ∀ j, j < i + 1 → ¬ its[j]? = some (2 * (c % 2), x7, c % 64 / 2)) → wL_law_727 post L xs J (wL_law_662 post L xs J x2 (nI κ) x5 x6 x7 x9 x10 x11 (nI its.length) x13 (nI (c / 64)) kc ks hN hf ln ll rv sl aw wl ts fr fs iu a1 a2 a3 a4 a5 a6 a7 a8 a9 a10 a11 a12 a13 a14 a15 (r + 1)) x2 (nI κ) x5 x6 x7 x9 x10 x11 (nI its.length) x13 (nI (c / 64)) (nI i) f' kc ks hN hf ln ll rv sl aw wl ts fr fs iu a1 a2 a3 a4 a5 a6 a7 a8 a9 a10 a11 a12 a13 a14 a15 := by
      intro f' hf' hn'
      have t := la_662 h1 h2 hc1 hc2 hx hC hfi ho hok hm (x13 := x13) hJ r (i + 1) f' (by omega) hf' hn'
      refine pk_le i 0 (fun z => nm_r (nI_1 i) t) (fun z => ?_)
      refine vw_key hC hfi o1 o2 (by omega) ?_
      obtain ⟨i', rfl⟩ : ∃ i', i = i' + 1 := ⟨i - 1, by omega⟩
      rw [nI_pred]
      refine vw_key hC hfi o1 o2 (by omega) ?_
      have g' : its[i']? = some its[i'] := List.getElem?_eq_getElem (by omega)
      have ek' : ob_key (C (c / 64)) i' = nI its[i'].2.2 := by rw [ho, ob_key, if_pos rfl, g']
      have hr := pt_rise g3 g' g
      rw [ek, ek']
      exact br_t (nI_lt hr (by omega)) (nm_r (nI_1 _) t)
    refine br_f (nI_ge (by omega) (by omega)) ?_
    by_cases c0 : f = 0
    · have hno : ¬ its[i] = (2 * (c % 2), x7, c % 64 / 2) → ∀ j, j < i + 1 → ¬ its[j]? = some (2 * (c % 2), x7, c % 64 / 2) := by
        intro hne j hj
        by_cases w : j = i
        · rw [w, g, Option.some.injEq]; exact hne
        · exact hfn c0 j (by omega)
      have e1 : (x5 - x5 / 64 * 64) / 2 = nI (c % 64 / 2) := by
        rw [hx, show (64 : Int32) = nI 64 from rfl, show (2 : Int32) = nI 2 from rfl, pk_rem (by omega) (by omega) (by omega), pk_div (by omega) (by omega) (by omega)]
      have e2 : (2 : Int32) * (x5 - x5 / 2 * 2) = nI (2 * (c % 2)) := by
        rw [hx, show (2 : Int32) = nI 2 from rfl, pk_rem (by omega) (by omega) (by omega), pk_mul]
      refine br_t c0 (vw_key hC hfi o1 o2 (by omega) ⟨by decide, by decide, ?_⟩)
      rw [ek, e1]
      refine pk_eq its[i].2.2 (c % 64 / 2) (fun k1 => vw_value hC hfi o1 o2 (by omega) ?_) (fun k1 => next 0 (Or.inl rfl) (fun _ => hno (fun w => k1 (by rw [w]))))
      rw [ev]
      refine br_c (fun k2 => vw_vk hC hfi o1 o2 (by omega) ⟨by decide, ?_⟩) (fun k2 => next 0 (Or.inl rfl) (fun _ => hno (fun w => k2 (by rw [w]))))
      rw [evk, e2]
      refine pk_eq its[i].1 (2 * (c % 2)) (fun k3 => next 1 (Or.inr rfl) (fun w => absurd w (by decide))) (fun k3 => next 0 (Or.inl rfl) (fun _ => hno (fun w => k3 (by rw [w]))))
    · exact br_f c0 (next 1 (Or.inr rfl) (fun w => absurd w (by decide)))
theorem fa_12 {C X : Nat → ob_Ob} {n K : Nat} {u : St1} (h1 : 12 ≤ κ) (h2 : κ < 16) (hs : st_in C n X K u) (hJ : ∀ C' n' X' u', st_in C' n' X' (K + 1) u' → la_J J (x2 + 3) u') : wpL_call (la_after post L xs J (lo_v C n X) x2 (nI κ) x5 x6 x7 x9 x10 x11 kc ks) u (nI κ) x5 x6 x7 := by
  refine ca_12 h1 h2 (m_put hs (fun r hr => ?_) (fun c its u' c1 c2 hx hok hm hs' => ?_))
  · refine la_neg hr hs (fun u' hs' => ?_)
    have hj := hJ _ _ _ u' (st_mono (by omega) hs')
    obtain ⟨hN, hf, ln, ll, rv, sl, aw, wl, ts, fr, fs, iu, a1, a2, a3, a4, a5, a6, a7, a8, a9, a10, a11, a12, a13, a14, a15⟩ := u'
    have go : ∀ g : Int32, wL_law_632 post L xs J x2 (nI κ) x5 x6 x7 x9 x10 x11 r g kc ks hN hf ln ll rv sl aw wl ts fr fs iu a1 a2 a3 a4 a5 a6 a7 a8 a9 a10 a11 a12 a13 a14 a15 := fun g => br_f (nI_ge (a := 11) (by omega) (by omega)) (br_f (nI_ge (b := 16) h2 (by omega)) (br_t (by rcases hr with rfl | rfl | rfl <;> decide) (la_e797 (by omega) hj)))
    exact la_301 (fun _ => la_s632 (by omega) h1 (go 1)) (fun _ => la_s632 (by omega) h1 (go 0))
  · obtain ⟨l3, _⟩ := ob_ok4 hok rfl
    dsimp only at l3
    refine la_pos (by omega) ?_
    have hj := hJ _ _ _ u' (st_mono (by omega) hs')
    have hfi : ∀ j, ob_fit (ob_set C (c / 64) (4, its) j) := fun j => ob_okfit (st_ok hs' j)
    obtain ⟨hN, hf, ln, ll, rv, sl, aw, wl, ts, fr, fs, iu, a1, a2, a3, a4, a5, a6, a7, a8, a9, a10, a11, a12, a13, a14, a15⟩ := u'
    have go : ∀ g : Int32, wL_law_632 post L xs J x2 (nI κ) x5 x6 x7 x9 x10 x11 (nI its.length) g kc ks hN hf ln ll rv sl aw wl ts fr fs iu a1 a2 a3 a4 a5 a6 a7 a8 a9 a10 a11 a12 a13 a14 a15 := fun g => br_f (nI_ge (a := 11) (by omega) (by omega)) (br_f (nI_ge (b := 16) h2 (by omega)) (br_f (nI_pos (by omega)) ⟨by decide, nm_r (e' := nI (c / 64)) (by rw [hx, show (64 : Int32) = nI 64 from rfl, pk_div (by omega) (by omega) (by omega)]) ⟨its.length + 1, la_662 h1 h2 c1 c2 hx hs'.2.1 hfi (ob_set_s _ _ _) hok hm hj its.length 0 0 (by omega) (Or.inl rfl) (fun _ j hj => absurd hj (by omega))⟩⟩))
    exact la_301 (fun _ => la_s632 (by omega) h1 (go 1)) (fun _ => la_s632 (by omega) h1 (go 0))
end
section
/-! the law's checks, kinds 16 to 23 -/
variable {hN hf ln ll rv sl aw wl ts fr fs iu : Int32} {a1 a2 a3 a4 a5 a6 a7 a8 a9 a10 a11 a12 a13 a14 a15 : Nat → Int32}
variable {post : Int32 → Prop} {L : Nat} {xs : Nat → Int32} {J : Int32 → Int32 → Int32 → Int32 → Int32 → Int32 → Int32 → Int32 → Int32 → Int32 → Int32 → Int32 → Int32 → (Nat → Int32) → (Nat → Int32) → (Nat → Int32) → (Nat → Int32) → (Nat → Int32) → (Nat → Int32) → (Nat → Int32) → (Nat → Int32) → (Nat → Int32) → (Nat → Int32) → (Nat → Int32) → (Nat → Int32) → (Nat → Int32) → (Nat → Int32) → (Nat → Int32) → Prop} {x2 x5 x6 x7 x9 x10 x11 : Int32} {kc ks κ : Nat}
theorem vw_rev {Q : Int32 → Prop} {C X : Nat → ob_Ob} {n K : Nat} {u : St1} (hs : st_in C n X K u) (H : Q (nI n)) : wpX_revisions Q u := by
  obtain ⟨hN, hf, ln, ll, rv, sl, aw, wl, ts, fr, fs, iu, a1, a2, a3, a4, a5, a6, a7, a8, a9, a10, a11, a12, a13, a14, a15⟩ := u
  obtain ⟨⟨R, L, pk, rs, h, ln0, k, h1, h2, _, _, _, _, h3, _⟩, _⟩ := hs
  rw [← h3] at H
  exact H
theorem st_n5 {C X : Nat → ob_Ob} {n K : Nat} {u : St1} (hs : st_in C n X K u) : n ≤ 5 := by
  obtain ⟨hN, hf, ln, ll, rv, sl, aw, wl, ts, fr, fs, iu, a1, a2, a3, a4, a5, a6, a7, a8, a9, a10, a11, a12, a13, a14, a15⟩ := u
  obtain ⟨⟨R, L, pk, rs, h, ln0, k, h1, h2, _, _, _, _, _, _, _, h3, _⟩, _⟩ := hs
  exact h3.1
theorem ch_refl (X : Nat → ob_Ob) : ch_v (ch_all X X 8) = 0 := by
  rw [(ch_all_iff X X 8).mpr (fun _ _ _ => rfl)]
  rfl
theorem fa_16 {C X : Nat → ob_Ob} {n K : Nat} {u : St1} (hs : st_in C n X K u) (hw : la_was C x5 x9 x10) (hJ : ∀ C' n' X' u', st_in C' n' X' (K + 1) u' → la_J J (x2 + 3) u') : wpL_call (la_after post L xs J (lo_v C n X) x2 (nI 16) x5 x6 x7 x9 x10 x11 kc ks) u (nI 16) x5 x6 x7 := by
  refine ca_16 (m_pop hs (fun hb => ?_) (fun o o1 o2 ho hn => ?_) (fun o u' o1 o2 ho k1 k2 k3 hs' => ?_))
  · refine la_neg (Or.inl rfl) hs (fun u' hs' => ?_)
    have hj := hJ _ _ _ u' (st_mono (by omega) hs')
    obtain ⟨hN, hf, ln, ll, rv, sl, aw, wl, ts, fr, fs, iu, a1, a2, a3, a4, a5, a6, a7, a8, a9, a10, a11, a12, a13, a14, a15⟩ := u'
    exact la_301 (fun g => absurd hb g) (fun _ => la_s797 (by omega) (by omega) (br_t rfl (br_t rfl (br_t rfl (la_e850 (by omega) hj)))))
  · have c5 := (ob_okfit (st_ok hs o)).1
    have c6 := (ob_okfit (st_ok hs o)).2.1
    obtain ⟨e9, e10⟩ := la_wasO hw o1 o2 ho
    refine la_neg (Or.inr (Or.inl rfl)) hs (fun u' hs' => ?_)
    have hj := hJ _ _ _ u' (st_mono (by omega) hs')
    obtain ⟨hN, hf, ln, ll, rv, sl, aw, wl, ts, fr, fs, iu, a1, a2, a3, a4, a5, a6, a7, a8, a9, a10, a11, a12, a13, a14, a15⟩ := u'
    have e834 : wL_law_834 post L xs J x2 (nI 16) x5 x6 x9 x11 (-2) 1 (-2) kc ks hN hf ln ll rv sl aw wl ts fr fs iu a1 a2 a3 a4 a5 a6 a7 a8 a9 a10 a11 a12 a13 a14 a15 := br_t rfl (la_e850 (by omega) hj)
    exact la_good o1 o2 ho (la_s797 (by omega) (by omega) (br_t rfl (br_f (by decide) (pk_le (C o).1 1 (fun _ => e834) (fun w1 => pk_le 5 (C o).1 (fun _ => e834) (fun w2 => pk_le (C o).2.length 0 (fun _ => e834) (fun w3 => absurd ⟨by omega, by omega, by omega⟩ hn) e10 rfl) rfl e9) e9 rfl))))
  · have c5 := (ob_okfit (st_ok hs o)).1
    have c6 := (ob_okfit (st_ok hs o)).2.1
    obtain ⟨e9, e10⟩ := la_wasO hw o1 o2 ho
    refine la_pos (by omega) ?_
    have hj := hJ _ _ _ u' (st_mono (by omega) hs')
    obtain ⟨hN, hf, ln, ll, rv, sl, aw, wl, ts, fr, fs, iu, a1, a2, a3, a4, a5, a6, a7, a8, a9, a10, a11, a12, a13, a14, a15⟩ := u'
    have e836 : wL_law_836 post L xs J x2 (nI 16) x5 x6 x9 x11 (nI ((C o).2.length - 1)) 1 (x10 - 1) (nI ((C o).2.length - 1)) kc ks hN hf ln ll rv sl aw wl ts fr fs iu a1 a2 a3 a4 a5 a6 a7 a8 a9 a10 a11 a12 a13 a14 a15 := br_t (by rw [e10]; exact (pk_sub (a := (C o).2.length) (b := 1) (by omega)).symm) (la_e850 (by omega) hj)
    exact la_good o1 o2 ho (la_s797 (by omega) (by omega) (br_t rfl (br_f (by decide) (pk_le (C o).1 1 (fun w => absurd w (by omega)) (fun w1 => pk_le 5 (C o).1 (fun w => absurd w (by omega)) (fun w2 => pk_le (C o).2.length 0 (fun w => absurd w (by omega)) (fun w3 => e836) e10 rfl) rfl e9) e9 rfl))))
theorem fa_17 {C X : Nat → ob_Ob} {n K : Nat} {u : St1} (hs : st_in C n X K u) (hw : la_was C x5 x9 x10) (hJ : ∀ C' n' X' u', st_in C' n' X' (K + 1) u' → la_J J (x2 + 3) u') : wpL_call (la_after post L xs J (lo_v C n X) x2 (nI 17) x5 x6 x7 x9 x10 x11 kc ks) u (nI 17) x5 x6 x7 := by
  refine ca_17 (m_remove hs (fun hb => ?_) (fun o u' o1 o2 ho hs' => ?_))
  · refine la_neg (Or.inl rfl) hs (fun u' hs' => ?_)
    have hj := hJ _ _ _ u' (st_mono (by omega) hs')
    obtain ⟨hN, hf, ln, ll, rv, sl, aw, wl, ts, fr, fs, iu, a1, a2, a3, a4, a5, a6, a7, a8, a9, a10, a11, a12, a13, a14, a15⟩ := u'
    exact la_301 (fun g => absurd hb g) (fun _ => la_s850 (by omega) (by omega) (br_t rfl (br_t rfl (br_t rfl (la_e897 (by omega) hj)))))
  · have c5 := (ob_okfit (st_ok hs o)).1
    obtain ⟨e9, e10⟩ := la_wasO hw o1 o2 ho
    refine la_pos (by omega) ?_
    have hj := hJ _ _ _ u' (st_mono (by omega) hs')
    obtain ⟨hN, hf, ln, ll, rv, sl, aw, wl, ts, fr, fs, iu, a1, a2, a3, a4, a5, a6, a7, a8, a9, a10, a11, a12, a13, a14, a15⟩ := u'
    refine la_good o1 o2 ho (la_s850 (by omega) (by omega) (br_t rfl (br_f (by decide) (br_t e9.symm ?_))))
    rw [ho]
    refine vw_kind hs'.2.1 o1 o2 ?_
    rw [ob_set_s]
    refine br_t rfl (vw_size hs'.2.1 o1 o2 ?_)
    rw [ob_set_s]
    exact br_t rfl (la_e897 (by omega) hj)
theorem fa_18 {C X : Nat → ob_Ob} {n K : Nat} {u : St1} (hs : st_in C n X K u) (hJ : ∀ C' n' X' u', st_in C' n' X' (K + 1) u' → la_J J (x2 + 3) u') : wpL_call (la_after post L xs J (lo_v C n X) x2 (nI 18) x5 x6 x7 x9 x10 x11 kc ks) u (nI 18) x5 x6 x7 := by
  refine ca_18 (m_sweep hs (fun u' hs' => ?_))
  have hc := sw_cnt_le (sw_R C) C 8 1
  refine la_pos (by omega) ?_
  have sw2 : ∀ Q : Int32 → St1 → Prop, (∀ u'', la_J J (x2 + 3) u'' → Q 0 u'') → wpX_sweep Q u' := by
    intro Q hQ
    refine m_sweep hs' (fun u'' hs'' => ?_)
    have e : sw_cnt (sw_R (sw_C (sw_R C) C)) (sw_C (sw_R C) C) 8 1 = 0 := by rw [sw_R_same, sw_cnt0]
    rw [e]
    exact hQ u'' (hJ _ _ _ u'' (st_mono (by omega) hs''))
  obtain ⟨hN, hf, ln, ll, rv, sl, aw, wl, ts, fr, fs, iu, a1, a2, a3, a4, a5, a6, a7, a8, a9, a10, a11, a12, a13, a14, a15⟩ := u'
  have go : wL_law_897 post L xs J x2 (nI 18) x5 x6 x11 (nI (sw_cnt (sw_R C) C 8 1)) kc ks hN hf ln ll rv sl aw wl ts fr fs iu a1 a2 a3 a4 a5 a6 a7 a8 a9 a10 a11 a12 a13 a14 a15 := by
    refine br_t rfl (br_f (nI_nlt (a := 8) hc (by omega)) (sw2 _ (fun u'' hj => ?_)))
    obtain ⟨hN, hf, ln, ll, rv, sl, aw, wl, ts, fr, fs, iu, a1, a2, a3, a4, a5, a6, a7, a8, a9, a10, a11, a12, a13, a14, a15⟩ := u''
    exact br_t rfl (la_e919 (by omega) hj)
  exact la_301 (fun _ => la_s897 (by omega) (by omega) go) (fun _ => la_s897 (by omega) (by omega) go)
theorem fa_19 {C X : Nat → ob_Ob} {n K : Nat} {u : St1} (hs : st_in C n X K u) (h11 : x11 = nI n) (hJ : ∀ C' n' X' u', st_in C' n' X' (K + 1) u' → la_J J (x2 + 3) u') : wpL_call (la_after post L xs J (lo_v C n X) x2 (nI 19) x5 x6 x7 x9 x10 x11 kc ks) u (nI 19) x5 x6 x7 := by
  subst h11
  refine ca_19 (m_open hs (fun hb => ?_) (fun Y c u' z1 z2 hc hY hs' => ?_))
  · refine la_neg (Or.inl rfl) hs (fun u' hs' => ?_)
    have hj := hJ _ _ _ u' (st_mono (by omega) hs')
    obtain ⟨hN, hf, ln, ll, rv, sl, aw, wl, ts, fr, fs, iu, a1, a2, a3, a4, a5, a6, a7, a8, a9, a10, a11, a12, a13, a14, a15⟩ := u'
    have e937 : wL_law_937 post L xs J x2 (nI 19) x6 (nI n) (-1) kc ks hN hf ln ll rv sl aw wl ts fr fs iu a1 a2 a3 a4 a5 a6 a7 a8 a9 a10 a11 a12 a13 a14 a15 := br_t rfl (la_e976 (by omega) hj)
    have go : wL_law_919 post L xs J x2 (nI 19) x5 x6 (nI n) (-1) kc ks hN hf ln ll rv sl aw wl ts fr fs iu a1 a2 a3 a4 a5 a6 a7 a8 a9 a10 a11 a12 a13 a14 a15 := by
      refine br_t rfl (br_c (fun _ => e937) (fun w => br_f ?_ e937))
      rcases hb with b | b
      · exact absurd b w
      · exact b.2
    exact la_301 (fun _ => la_s919 (by omega) (by omega) go) (fun _ => la_s919 (by omega) (by omega) go)
  · refine la_pos (by omega) ?_
    have hj := hJ _ _ _ u' (st_mono (by omega) hs')
    have ch : x5 = nI n - 1 → ∀ Q : Int32 → St1 → Prop, (∀ u'', la_J J (x2 + 3) u'' → Q 0 u'') → wpX_changed Q u' := by
      intro e Q hQ
      refine st_changed hs' (fun u'' hs'' _ => ?_)
      rw [hY e, ch_refl]
      exact hQ u'' (hJ _ _ _ u'' (st_mono (by omega) hs''))
    obtain ⟨hN, hf, ln, ll, rv, sl, aw, wl, ts, fr, fs, iu, a1, a2, a3, a4, a5, a6, a7, a8, a9, a10, a11, a12, a13, a14, a15⟩ := u'
    have go : wL_law_919 post L xs J x2 (nI 19) x5 x6 (nI n) (nI c) kc ks hN hf ln ll rv sl aw wl ts fr fs iu a1 a2 a3 a4 a5 a6 a7 a8 a9 a10 a11 a12 a13 a14 a15 := by
      refine br_t rfl (br_f z1 (br_t z2 (br_f (nI_pos (by omega)) (br_f (nI_nlt (a := 8) hc (by omega)) (br_c (fun e => ch e _ (fun u'' hj => ?_)) (fun _ => la_e976 (by omega) hj))))))
      obtain ⟨hN, hf, ln, ll, rv, sl, aw, wl, ts, fr, fs, iu, a1, a2, a3, a4, a5, a6, a7, a8, a9, a10, a11, a12, a13, a14, a15⟩ := u''
      exact br_t rfl (la_e976 (by omega) hj)
    exact la_301 (fun _ => la_s919 (by omega) (by omega) go) (fun _ => la_s919 (by omega) (by omega) go)
theorem fa_20 {C X : Nat → ob_Ob} {n K : Nat} {u : St1} (h1 : 20 ≤ κ) (h2 : κ < 23) (hK : K < 2 ^ 30) (hs : st_in C n X K u) (ht : st_tou X C u) (h11 : x11 = nI n) (hJ : ∀ C' n' X' u', st_in C' n' X' (K + 1) u' → la_J J (x2 + 3) u') : wpL_call (la_after post L xs J (lo_v C n X) x2 (nI κ) x5 x6 x7 x9 x10 x11 kc ks) u (nI κ) x5 x6 x7 := by
  subst h11
  have n5 := st_n5 hs
  refine ca_20 h1 h2 (m_save hK hs ht (fun hb => ?_) (fun y0 hn => ?_) (fun u' m z1 z2 m0 m1 hs' => ?_))
  · refine la_neg (Or.inl rfl) hs (fun u' hs' => ?_)
    have hj := hJ _ _ _ u' (st_mono (by omega) hs')
    obtain ⟨hN, hf, ln, ll, rv, sl, aw, wl, ts, fr, fs, iu, a1, a2, a3, a4, a5, a6, a7, a8, a9, a10, a11, a12, a13, a14, a15⟩ := u'
    have e999 : wL_law_999 post L xs J x2 (nI κ) x6 (nI n) (-1) kc ks hN hf ln ll rv sl aw wl ts fr fs iu a1 a2 a3 a4 a5 a6 a7 a8 a9 a10 a11 a12 a13 a14 a15 := br_t rfl (la_1065 (by omega) (by omega) hj)
    have go : wL_law_976 post L xs J x2 (nI κ) x6 (nI n) (-1) kc ks hN hf ln ll rv sl aw wl ts fr fs iu a1 a2 a3 a4 a5 a6 a7 a8 a9 a10 a11 a12 a13 a14 a15 := by
      refine br_f (nI_ge (a := 19) (by omega) (by omega)) (br_f (nI_ge (b := 23) h2 (by omega)) (br_c (fun _ => e999) (fun w => br_f ?_ e999)))
      rcases hb with b | b
      · exact absurd b w
      · exact b.2
    exact la_301 (fun _ => la_s976 (by omega) (by omega) go) (fun _ => la_s976 (by omega) (by omega) go)
  · refine la_neg (Or.inr (Or.inr rfl)) hs (fun u' hs' => ?_)
    have hj := hJ _ _ _ u' (st_mono (by omega) hs')
    obtain ⟨hN, hf, ln, ll, rv, sl, aw, wl, ts, fr, fs, iu, a1, a2, a3, a4, a5, a6, a7, a8, a9, a10, a11, a12, a13, a14, a15⟩ := u'
    have go : wL_law_976 post L xs J x2 (nI κ) x6 (nI n) (-3) kc ks hN hf ln ll rv sl aw wl ts fr fs iu a1 a2 a3 a4 a5 a6 a7 a8 a9 a10 a11 a12 a13 a14 a15 :=
      br_f (nI_ge (a := 19) (by omega) (by omega)) (br_f (nI_ge (b := 23) h2 (by omega)) (br_f (by rw [y0]; decide) (br_t (by rw [y0]; decide) (br_t y0 (br_t (by rw [hn]; rfl) (br_t rfl (la_1065 (by omega) (by omega) hj)))))))
    exact la_301 (fun _ => la_s976 (by omega) (by omega) go) (fun _ => la_s976 (by omega) (by omega) go)
  · have m5 := st_n5 hs'
    refine la_pos (by omega) ?_
    have ch : ∀ Q : Int32 → St1 → Prop, (∀ u'', st_in C m C (K + 1) u'' → Q 0 u'') → wpX_changed Q u' := by
      intro Q hQ
      refine st_changed hs' (fun u'' hs'' _ => ?_)
      rw [ch_refl]
      exact hQ u'' hs''
    obtain ⟨hN, hf, ln, ll, rv, sl, aw, wl, ts, fr, fs, iu, a1, a2, a3, a4, a5, a6, a7, a8, a9, a10, a11, a12, a13, a14, a15⟩ := u'
    have e1044 : ∀ v : Int32, v = nI m → wL_law_1044 post L xs J x2 (nI κ) x6 (nI n) (nI m) v (nI m) kc ks hN hf ln ll rv sl aw wl ts fr fs iu a1 a2 a3 a4 a5 a6 a7 a8 a9 a10 a11 a12 a13 a14 a15 := by
      intro v hv
      refine br_t hv.symm (ch _ (fun u'' hs'' => ?_))
      have hj := hJ _ _ _ u'' hs''
      have hrev : ∀ Q : Int32 → Prop, Q (nI m) → wpX_revisions Q u'' := fun Q hQ => vw_rev hs'' hQ
      obtain ⟨hN, hf, ln, ll, rv, sl, aw, wl, ts, fr, fs, iu, a1, a2, a3, a4, a5, a6, a7, a8, a9, a10, a11, a12, a13, a14, a15⟩ := u''
      exact br_t rfl (hrev _ (br_t rfl (la_1065 (by omega) (by omega) hj)))
    have e1029 : wL_law_1029 post L xs J x2 (nI κ) x6 (nI n) (nI m) kc ks hN hf ln ll rv sl aw wl ts fr fs iu a1 a2 a3 a4 a5 a6 a7 a8 a9 a10 a11 a12 a13 a14 a15 :=
      br_c (fun y0 => e1044 (nI n + 1) (by rw [(m0 y0).2, nI_1])) (fun y0 => e1044 1 (by rw [m1 y0]; rfl))
    have go : wL_law_976 post L xs J x2 (nI κ) x6 (nI n) (nI m) kc ks hN hf ln ll rv sl aw wl ts fr fs iu a1 a2 a3 a4 a5 a6 a7 a8 a9 a10 a11 a12 a13 a14 a15 :=
      br_f (nI_ge (a := 19) (by omega) (by omega)) (br_f (nI_ge (b := 23) h2 (by omega)) (br_f z1 (br_t z2 (br_c (fun y0 => br_f (fun z => by have := (nI_eq (b := 5) (by omega) (by omega)).mp z; have := (m0 y0).1; omega) e1029) (fun _ => e1029)))))
    exact la_301 (fun _ => la_s976 (by omega) (by omega) go) (fun _ => la_s976 (by omega) (by omega) go)
theorem fa_23 {C X : Nat → ob_Ob} {n K : Nat} {u : St1} (hK : K < 2 ^ 30) (hs : st_in C n X K u) (h11 : x11 = nI n) (hJ : ∀ C' n' X' u', st_in C' n' X' (K + 1) u' → la_J J (x2 + 3) u') : wpL_call (la_after post L xs J (lo_v C n X) x2 (nI 23) x5 x6 x7 x9 x10 x11 kc ks) u (nI 23) x5 x6 x7 := by
  subst h11
  have n5 := st_n5 hs
  refine ca_23 (m_breakOff hK hs (fun hb => ?_) (fun u' z1 z2 hs' => ?_))
  · refine la_neg (Or.inl rfl) hs (fun u' hs' => ?_)
    have hj := hJ _ _ _ u' (st_mono (by omega) hs')
    obtain ⟨hN, hf, ln, ll, rv, sl, aw, wl, ts, fr, fs, iu, a1, a2, a3, a4, a5, a6, a7, a8, a9, a10, a11, a12, a13, a14, a15⟩ := u'
    have e1082 : wL_law_1082 post L xs J x2 (-1) kc ks hN hf ln ll rv sl aw wl ts fr fs iu a1 a2 a3 a4 a5 a6 a7 a8 a9 a10 a11 a12 a13 a14 a15 := br_t rfl (nm_e hj)
    have go : wL_law_1065 post L xs J x2 (nI 23) x6 (nI n) (-1) kc ks hN hf ln ll rv sl aw wl ts fr fs iu a1 a2 a3 a4 a5 a6 a7 a8 a9 a10 a11 a12 a13 a14 a15 := by
      refine br_t rfl (br_c (fun _ => e1082) (fun w => br_f ?_ e1082))
      rcases hb with b | b
      · exact absurd b w
      · exact b.2
    exact la_301 (fun _ => la_s1065 (by omega) (by omega) go) (fun _ => la_s1065 (by omega) (by omega) go)
  · refine la_pos (by omega) ?_
    have ch : ∀ Q : Int32 → St1 → Prop, (∀ u'', st_in X n X K u'' → Q 0 u'') → wpX_changed Q u' := by
      intro Q hQ
      refine st_changed hs' (fun u'' hs'' _ => ?_)
      rw [ch_refl]
      exact hQ u'' hs''
    obtain ⟨hN, hf, ln, ll, rv, sl, aw, wl, ts, fr, fs, iu, a1, a2, a3, a4, a5, a6, a7, a8, a9, a10, a11, a12, a13, a14, a15⟩ := u'
    have go : wL_law_1065 post L xs J x2 (nI 23) x6 (nI n) (nI n) kc ks hN hf ln ll rv sl aw wl ts fr fs iu a1 a2 a3 a4 a5 a6 a7 a8 a9 a10 a11 a12 a13 a14 a15 := by
      refine br_t rfl (br_f z1 (br_t z2 (br_t rfl (ch _ (fun u'' hs'' => ?_)))))
      have hj := hJ _ _ _ u'' (st_mono (by omega) hs'')
      have hrev : ∀ Q : Int32 → Prop, Q (nI n) → wpX_revisions Q u'' := fun Q hQ => vw_rev hs'' hQ
      obtain ⟨hN, hf, ln, ll, rv, sl, aw, wl, ts, fr, fs, iu, a1, a2, a3, a4, a5, a6, a7, a8, a9, a10, a11, a12, a13, a14, a15⟩ := u''
      exact br_t rfl (hrev _ (br_t rfl (nm_e hj)))
    exact la_301 (fun _ => la_s1065 (by omega) (by omega) go) (fun _ => la_s1065 (by omega) (by omega) go)
end
section
/-! one turn of the law, its loop, and what is owed -/
variable {hN hf ln ll rv sl aw wl ts fr fs iu : Int32} {a1 a2 a3 a4 a5 a6 a7 a8 a9 a10 a11 a12 a13 a14 a15 : Nat → Int32}
variable {post : Int32 → Prop} {L : Nat} {xs : Nat → Int32} {J : Int32 → Int32 → Int32 → Int32 → Int32 → Int32 → Int32 → Int32 → Int32 → Int32 → Int32 → Int32 → Int32 → (Nat → Int32) → (Nat → Int32) → (Nat → Int32) → (Nat → Int32) → (Nat → Int32) → (Nat → Int32) → (Nat → Int32) → (Nat → Int32) → (Nat → Int32) → (Nat → Int32) → (Nat → Int32) → (Nat → Int32) → (Nat → Int32) → (Nat → Int32) → (Nat → Int32) → Prop} {x2 x5 x6 x7 : Int32} {kc ks κ : Nat}
theorem la_235 {C X : Nat → ob_Ob} {n K : Nat} (hk : κ < 24) (hK : K < 2 ^ 30) (hs : st_in C n X K (hN, hf, ln, ll, rv, sl, aw, wl, ts, fr, fs, iu, a1, a2, a3, a4, a5, a6, a7, a8, a9, a10, a11, a12, a13, a14, a15)) (hJ : ∀ C' n' X' u', st_in C' n' X' (K + 1) u' → la_J J (x2 + 3) u') : wL_law_235 post L xs J x2 (nI κ) x5 x6 x7 kc ks hN hf ln ll rv sl aw wl ts fr fs iu a1 a2 a3 a4 a5 a6 a7 a8 a9 a10 a11 a12 a13 a14 a15 := by
  unfold wL_law_235
  refine st_look hs (fun u' hs' ht' => ?_)
  have call : ∀ x9 x10 : Int32, la_was C x5 x9 x10 → wpL_call (la_after post L xs J (lo_v C n X) x2 (nI κ) x5 x6 x7 x9 x10 (nI n) kc ks) u' (nI κ) x5 x6 x7 := by
    intro x9 x10 hw
    rcases Nat.lt_or_ge κ 1 with g | g
    · have : κ = 0 := by omega
      subst this
      exact fa_0 hs' hw hJ
    rcases Nat.lt_or_ge κ 3 with g2 | g2
    · exact fa_1 g g2 hs' hw hJ
    rcases Nat.lt_or_ge κ 6 with g3 | g3
    · exact fa_3 g2 g3 hs' hw hJ
    rcases Nat.lt_or_ge κ 8 with g4 | g4
    · exact fa_6 g3 g4 hs' hw hJ
    rcases Nat.lt_or_ge κ 12 with g5 | g5
    · exact fa_8 g4 g5 hs' hw hJ
    rcases Nat.lt_or_ge κ 16 with g6 | g6
    · exact fa_12 g5 g6 hs' hJ
    rcases Nat.lt_or_ge κ 17 with g7 | g7
    · have : κ = 16 := by omega
      subst this
      exact fa_16 hs' hw hJ
    rcases Nat.lt_or_ge κ 18 with g8 | g8
    · have : κ = 17 := by omega
      subst this
      exact fa_17 hs' hw hJ
    rcases Nat.lt_or_ge κ 19 with g9 | g9
    · have : κ = 18 := by omega
      subst this
      exact fa_18 hs' hJ
    rcases Nat.lt_or_ge κ 20 with g10 | g10
    · have : κ = 19 := by omega
      subst this
      exact fa_19 hs' rfl hJ
    rcases Nat.lt_or_ge κ 23 with g11 | g11
    · exact fa_20 g10 g11 hK hs' ht' rfl hJ
    · have : κ = 23 := by omega
      subst this
      exact fa_23 hK hs' rfl hJ
  have hrev : ∀ Q : Int32 → Prop, Q (nI n) → wpX_revisions Q u' := fun Q hQ => vw_rev hs' hQ
  obtain ⟨hN, hf, ln, ll, rv, sl, aw, wl, ts, fr, fs, iu, a1, a2, a3, a4, a5, a6, a7, a8, a9, a10, a11, a12, a13, a14, a15⟩ := u'
  have hC := hs'.2.1
  rcases ob_isobj x5 with ⟨o, o1, o2, ho⟩ | hb
  · have c := call (nI (C o).1) (nI (C o).2.length) (Or.inl ⟨o, o1, o2, ho, rfl, rfl⟩)
    subst ho
    exact vw_kind hC o1 o2 (vw_size hC o1 o2 (hrev _ c))
  · have c := call (-1) (-1) (Or.inr ⟨hb, rfl, rfl⟩)
    exact vw_kind0 hb (vw_size0 hb (hrev _ c))
theorem la_214 {C X : Nat → ob_Ob} {n K k : Nat} {x4 : Int32} (hk : κ < 24) (hK : K < 2 ^ 30) (hk2 : k + 2 < L) (hL : L ≤ 260) (h2 : x2 = nI k) (hs : st_in C n X K (hN, hf, ln, ll, rv, sl, aw, wl, ts, fr, fs, iu, a1, a2, a3, a4, a5, a6, a7, a8, a9, a10, a11, a12, a13, a14, a15)) (hJ : ∀ C' n' X' u', st_in C' n' X' (K + 1) u' → la_J J (x2 + 3) u') : wL_law_214 post L xs J x2 (nI κ) x4 x5 x6 kc ks hN hf ln ll rv sl aw wl ts fr fs iu a1 a2 a3 a4 a5 a6 a7 a8 a9 a10 a11 a12 a13 a14 a15 :=
  br_c (fun _ => ⟨pk_in (k + 2) L hk2 (by rw [h2]; exact nI_add k 2), la_235 hk hK hs hJ⟩) (fun _ => ⟨pk_in k L (by omega) h2, la_235 hk hK hs hJ⟩)
theorem la_117 {C X : Nat → ob_Ob} {n K k : Nat} {x4 : Int32} (hk : κ < 24) (hK : K < 2 ^ 30) (hk2 : k + 2 < L) (hL : L ≤ 260) (h2 : x2 = nI k) (hs : st_in C n X K (hN, hf, ln, ll, rv, sl, aw, wl, ts, fr, fs, iu, a1, a2, a3, a4, a5, a6, a7, a8, a9, a10, a11, a12, a13, a14, a15)) (hJ : ∀ C' n' X' u', st_in C' n' X' (K + 1) u' → la_J J (x2 + 3) u') : wL_law_117 post L xs J x2 (nI κ) x4 x5 kc ks hN hf ln ll rv sl aw wl ts fr fs iu a1 a2 a3 a4 a5 a6 a7 a8 a9 a10 a11 a12 a13 a14 a15 := by
  have i1 : vp_in (x2 + 1) L := pk_in (k + 1) L (by omega) (by rw [h2]; exact nI_add k 1)
  have i2 : vp_in (x2 + 2) L := pk_in (k + 2) L hk2 (by rw [h2]; exact nI_add k 2)
  exact br_c (fun _ => br_c (fun _ => br_c (fun _ => br_c (fun _ => ⟨i1, by decide, la_214 hk hK hk2 hL h2 hs hJ⟩) (fun _ => ⟨i1, by decide, la_214 hk hK hk2 hL h2 hs hJ⟩)) (fun _ => ⟨i1, la_214 hk hK hk2 hL h2 hs hJ⟩)) (fun _ => ⟨i1, by decide, la_214 hk hK hk2 hL h2 hs hJ⟩)) (fun _ => ⟨i2, la_214 hk hK hk2 hL h2 hs hJ⟩)
theorem la_50 {C X : Nat → ob_Ob} {n K k : Nat} {z0 : Int32} (hk : κ < 24) (hK : K < 2 ^ 30) (hk2 : k + 2 < L) (hL : L ≤ 260) (h2 : x2 = nI k) (hs : st_in C n X K (hN, hf, ln, ll, rv, sl, aw, wl, ts, fr, fs, iu, a1, a2, a3, a4, a5, a6, a7, a8, a9, a10, a11, a12, a13, a14, a15)) (hJ : ∀ C' n' X' u', st_in C' n' X' (K + 1) u' → la_J J (x2 + 3) u') : wL_law_50 post L xs J x2 (nI κ) z0 kc ks hN hf ln ll rv sl aw wl ts fr fs iu a1 a2 a3 a4 a5 a6 a7 a8 a9 a10 a11 a12 a13 a14 a15 := by
  have i1 : vp_in (x2 + 1) L := pk_in (k + 1) L (by omega) (by rw [h2]; exact nI_add k 1)
  have e92 : wL_law_92 post L xs J x2 (nI κ) z0 kc ks hN hf ln ll rv sl aw wl ts fr fs iu a1 a2 a3 a4 a5 a6 a7 a8 a9 a10 a11 a12 a13 a14 a15 := br_c (fun _ => ⟨i1, la_117 hk hK hk2 hL h2 hs hJ⟩) (fun _ => ⟨i1, la_117 hk hK hk2 hL h2 hs hJ⟩)
  exact br_c (fun _ => br_c (fun _ => e92) (fun _ => br_c (fun _ => e92) (fun _ => ⟨i1, la_117 hk hK hk2 hL h2 hs hJ⟩))) (fun _ => ⟨i1, la_117 hk hK hk2 hL h2 hs hJ⟩)
theorem la_10 (hp : post 1) (hL : L ≤ 260) : ∀ (r k : Nat) (C : Nat → ob_Ob) (n : Nat) (X : Nat → ob_Ob) (u : St1), k ≤ 78 → 75 ≤ k + 3 * r → st_in C n X (k + 1) u → la_J (wL_law_10 post L xs kc ks (r + 1)) (nI k) u
  | r, k, C, n, X, u, hk, hr, hs => by
    obtain ⟨hN, hf, ln, ll, rv, sl, aw, wl, ts, fr, fs, iu, a1, a2, a3, a4, a5, a6, a7, a8, a9, a10, a11, a12, a13, a14, a15⟩ := u
    refine pk_le L (k + 2) (fun _ => hp) (fun c1 => pk_le 75 k (fun _ => hp) (fun c2 => ?_)) rfl (nI_add k 2)
    have ik : vp_in (nI k) L := pk_in k L (by omega)
    obtain ⟨b, hb, hx⟩ := pk_andE (xs (nI k).toNatClampNeg) (m := 255) 8 (by decide)
    refine ⟨ik, by decide, nm_r (e' := nI (b % 24)) ?_ ⟨ik, ?_⟩⟩
    · rw [hx]
      exact pk_rem (d := 24) (by omega) (by omega) (by omega)
    have hk24 : b % 24 < 24 := Nat.mod_lt _ (by omega)
    match r, hr with
    | 0, hr => omega
    | r + 1, hr =>
      have hJ : ∀ C' n' X' u', st_in C' n' X' (k + 1 + 1) u' → la_J (wL_law_10 post L xs kc ks (r + 1)) (nI k + 3) u' := by
        intro C' n' X' u' hs'
        have e : nI k + 3 = nI (k + 3) := nI_add k 3
        rw [e]
        exact la_10 hp hL r (k + 3) C' n' X' u' (by omega) (by omega) (st_mono (by omega) hs')
      exact br_c (fun _ => la_50 hk24 (by omega) (by omega) hL rfl hs hJ) (fun _ => la_50 hk24 (by omega) (by omega) hL rfl hs hJ)
theorem la_init (a8 : Nat → Int32) (h8 : a8 = upd (upd (upd (fun _ => 0) 0 1) 5 1) 3 (-1)) (a7 : Nat → Int32) : st_in (fun _ => ob_no) 0 (fun _ => ob_no) 1 (1, 0, 0, (-1), 0, 0, 0, 0, 0, 0, 0, 0, (fun _ => 0), (fun _ => 0), (fun _ => 0), (fun _ => 0), (fun _ => 0), (fun _ => 0), a7, a8, (fun _ => 0), (fun _ => 0), (fun _ => 0), (fun _ => 0), (fun _ => 0), (fun _ => 0), (fun _ => 0)) := by
  refine ⟨⟨fun _ _ => ob_no, fun _ => 0, false, [], 0, 0, 1, by omega, by omega, rfl, rfl, rfl, rfl, rfl, rfl, fun _ => trivial, ⟨by omega, by omega, fun _ _ => ob_okno, fun z => by simp at z, fun j hj => absurd hj (by omega)⟩, ?_⟩, fun o _ _ => ⟨rfl, rfl, fun i it hi => by simp [ob_no] at hi⟩, fun _ => ob_okno⟩
  subst h8
  exact ⟨by omega, rfl, rfl, rfl, rfl, rfl, rfl, 0, by omega, rfl⟩
theorem i_vc (xs : Nat → Int32) (L : Nat) (hL : L ≤ 260) : wpL_law (fun r => r = 1) L xs := by
  refine ⟨15, 8490, by omega, by omega, ?_⟩
  refine ⟨by omega, by omega, by omega, by omega, by omega, by omega, by omega, by omega, by omega, by omega, by omega, by omega, by omega, by omega, by omega, by omega, by omega, by omega, by omega, by omega, by omega, by omega, by omega, by omega, by omega, by omega, by omega, by omega, by omega, by omega, nm_e (nm_e (nm_e ⟨26, ?_⟩))⟩
  exact la_10 (post := fun r => r = 1) rfl hL 25 0 _ _ _ _ (by omega) (by omega) (la_init _ rfl _)
end
