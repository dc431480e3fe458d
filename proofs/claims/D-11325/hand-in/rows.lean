section
/-! words of two documents: bit 0 and bit 1 -/
def fd_w (a b : Bool) : Int64 := bif a then (bif b then 3 else 1) else (bif b then 2 else 0)
theorem fd_or (a b c d : Bool) : fd_w a b ||| fd_w c d = fd_w (a || c) (b || d) := by
  cases a <;> cases b <;> cases c <;> cases d <;> decide +kernel
theorem fd_and (a b c d : Bool) : fd_w a b &&& fd_w c d = fd_w (a && c) (b && d) := by
  cases a <;> cases b <;> cases c <;> cases d <;> decide +kernel
theorem fd_not (a b : Bool) : fd_w true true &&& (fd_w a b ^^^ (-1)) = fd_w (!a) (!b) := by
  cases a <;> cases b <;> decide +kernel
def fd_bit (d : Nat) : Int64 := fd_w (decide (d = 0)) (decide (d = 1))
theorem fd_sh : ∀ d, d < 2 → (1 : Int64) <<< ((nI d).toInt64 &&& 63) = fd_bit d := by decide +kernel
theorem fd_i0 (a b : Bool) : (((fd_w a b).toUInt64 >>> ((nI 0).toInt64.toUInt64 &&& Int64.toUInt64 63)).toInt64 &&& 1) = 1 ↔ a = true := by
  cases a <;> cases b <;> decide +kernel
theorem fd_i1 (a b : Bool) : (((fd_w a b).toUInt64 >>> ((nI 1).toInt64.toUInt64 &&& Int64.toUInt64 63)).toInt64 &&& 1) = 1 ↔ b = true := by
  cases a <;> cases b <;> decide +kernel
theorem fd_dbit : ∀ d, d < 2 → (((fd_w true true).toUInt64 >>> ((nI d).toInt64.toUInt64 &&& Int64.toUInt64 63)).toInt64 &&& 1) = 1 := by decide +kernel
/-- a word's store: the old content with more bits -/
def fd_put (f : Nat → Int64) (k : Nat) (x : Int64) : Nat → Int64 := vp_updL f k (f k ||| x)
theorem fd_ps {f : Nat → Int64} {k : Nat} {x : Int64} : fd_put f k x k = f k ||| x := pk_uLs
theorem fd_pn {f : Nat → Int64} {k j : Nat} {x : Int64} (h : j ≠ k) : fd_put f k x j = f j := pk_uLn h
/-! bits of an int, as the code asks for them -/
def fd_b (x : Int32) (i : Nat) : Bool := decide (((x >>> (nI i &&& 31)) &&& 1) = 1)
theorem fd_bI {x : Int32} {i : Nat} : ((x >>> (nI i &&& 31)) &&& 1) = 1 ↔ fd_b x i = true := decide_eq_true_iff.symm
def fd_t (x : Int32) (i : Nat) : Bool := x.toBitVec.getLsbD i
theorem fd_tx {x y : Int32} (h : ∀ i, i < 32 → fd_t x i = fd_t y i) : x = y := Int32.toBitVec_inj.mp (BitVec.eq_of_getLsbD_eq (fun i hi => h i hi))
theorem fd_ta (x y : Int32) (i : Nat) : fd_t (x &&& y) i = (fd_t x i && fd_t y i) := by unfold fd_t; rw [Int32.toBitVec_and, BitVec.getLsbD_and]
theorem fd_t1 : ∀ i, i < 32 → fd_t 1 i = decide (i = 0) := by decide +kernel
theorem fd_t255 : ∀ i, i < 32 → fd_t 255 i = decide (i < 8) := by decide +kernel
theorem fd_t0 (i : Nat) : fd_t 0 i = false := BitVec.getLsbD_zero
theorem fd_sl : ∀ n, n < 32 → ((nI n &&& 31).toBitVec.smod 32).toNat = n := by decide +kernel
theorem fd_tsh (n : Nat) (hn : n < 32) (x : Int32) : fd_t (x >>> (nI n &&& 31)) 0 = fd_t x n := by
  unfold fd_t
  rw [Int32.toBitVec_shiftRight]
  show (x.toBitVec.sshiftRight ((nI n &&& 31).toBitVec.smod 32).toNat).getLsbD 0 = _
  rw [fd_sl n hn, BitVec.getLsbD_sshiftRight]
  simp [hn]
theorem fd_one (y : Int32) : y &&& 1 = 1 ↔ fd_t y 0 = true := by
  constructor
  · intro h
    have h2 : fd_t (y &&& 1) 0 = fd_t 1 0 := by rw [h]
    rw [fd_ta, fd_t1 0 (by omega)] at h2
    simpa using h2
  · intro h
    refine fd_tx (fun i hi => ?_)
    rw [fd_ta, fd_t1 i hi]
    by_cases e : i = 0
    · rw [e, h]; rfl
    · rw [decide_eq_false e, Bool.and_false]
theorem fd_bt (x : Int32) {n : Nat} (hn : n < 32) : fd_b x n = fd_t x n := by
  have h : fd_b x n = true ↔ fd_t x n = true := by
    rw [← fd_bI, fd_one, fd_tsh n hn]
  exact Bool.eq_iff_iff.mpr h
theorem fd_b0 {n : Nat} (hn : n < 32) : fd_b 0 n = false := by rw [fd_bt 0 hn, fd_t0]
theorem fd_t8 {m : Nat} (hm : m < 256) {i : Nat} (h8 : 8 ≤ i) (hi : i < 32) : fd_t (nI m) i = false := by
  have e : nI m &&& 255 = nI m := by
    rw [pk_andN (show m < 2 ^ 32 by omega) 8 (by decide), Nat.mod_eq_of_lt (show m < 2 ^ 8 by omega)]
  rw [← e, fd_ta, fd_t255 i hi, decide_eq_false (show ¬ i < 8 by omega), Bool.and_false]
/-! tags: any of them, all of them -/
def fd_any (z p : Int32) : Nat → Bool
  | 0 => false
  | n + 1 => fd_any z p n || (fd_b z n && fd_b p n)
def fd_all (z p : Int32) : Nat → Bool
  | 0 => true
  | n + 1 => fd_all z p n && (!fd_b z n || fd_b p n)
theorem fd_any_iff (z p : Int32) : ∀ n, fd_any z p n = true ↔ ∃ g, g < n ∧ fd_b z g = true ∧ fd_b p g = true := by
  intro n
  induction n with
  | zero => exact ⟨fun h => absurd (show false = true from h) (by decide), fun ⟨g, h, _⟩ => absurd h (by omega)⟩
  | succ n ih =>
    show (fd_any z p n || (fd_b z n && fd_b p n)) = true ↔ _
    rw [Bool.or_eq_true, Bool.and_eq_true, ih]
    constructor
    · rintro (⟨g, h, r⟩ | r)
      · exact ⟨g, by omega, r⟩
      · exact ⟨n, by omega, r⟩
    · rintro ⟨g, h, r⟩
      by_cases e : g = n
      · subst e
        exact Or.inr r
      · exact Or.inl ⟨g, by omega, r⟩
theorem fd_all_iff (z p : Int32) : ∀ n, fd_all z p n = true ↔ ∀ g, g < n → fd_b z g = true → fd_b p g = true := by
  intro n
  induction n with
  | zero => exact ⟨fun _ g h => absurd h (by omega), fun _ => rfl⟩
  | succ n ih =>
    show (fd_all z p n && (!fd_b z n || fd_b p n)) = true ↔ _
    rw [Bool.and_eq_true, ih]
    constructor
    · rintro ⟨h1, h2⟩ g hg hz
      by_cases e : g = n
      · subst e
        rw [hz] at h2
        exact h2
      · exact h1 g (by omega) hz
    · intro h
      refine ⟨fun g hg hz => h g (by omega) hz, ?_⟩
      cases hz : fd_b z n with
      | false => rfl
      | true => exact h n (by omega) hz
theorem fd_anyL {m : Nat} (hm : m < 256) (p : Int32) : fd_any (nI m) p 8 = true ↔ ¬ p &&& nI m = 0 := by
  rw [fd_any_iff]
  constructor
  · rintro ⟨g, hg, hz, hp⟩ e
    rw [fd_bt _ (by omega)] at hz hp
    have h : fd_t (p &&& nI m) g = true := by rw [fd_ta, hz, hp]; rfl
    rw [e, fd_t0] at h
    exact absurd h (by decide)
  · intro h
    refine Decidable.byContradiction (fun hn => h (fd_tx (fun i hi => ?_)))
    rw [fd_ta, fd_t0]
    by_cases e : i < 8
    · cases hz : fd_t (nI m) i with
      | false => exact Bool.and_false _
      | true =>
        cases hp : fd_t p i with
        | false => rfl
        | true => exact absurd ⟨i, e, by rw [fd_bt _ hi]; exact hz, by rw [fd_bt _ hi]; exact hp⟩ hn
    · rw [fd_t8 hm (by omega) hi, Bool.and_false]
theorem fd_allL {m : Nat} (hm : m < 256) (p : Int32) : fd_all (nI m) p 8 = true ↔ p &&& nI m = nI m := by
  rw [fd_all_iff]
  constructor
  · intro h
    refine fd_tx (fun i hi => ?_)
    rw [fd_ta]
    by_cases e : i < 8
    · cases hz : fd_t (nI m) i with
      | false => exact Bool.and_false _
      | true =>
        have hp := h i e (by rw [fd_bt _ hi]; exact hz)
        rw [fd_bt _ hi] at hp
        rw [hp]; rfl
    · rw [fd_t8 hm (by omega) hi, Bool.and_false]
  · intro e g hg hz
    rw [fd_bt _ (by omega)] at hz ⊢
    have h : fd_t (p &&& nI m) g = fd_t (nI m) g := by rw [e]
    rw [fd_ta, hz, Bool.and_true] at h
    exact h
/-! the order of numbers and documents, as placeOf asks for it -/
def fd_lt (n d num doc : Int32) : Prop := n < num ∨ (n = num ∧ ¬ doc ≤ d)
theorem fd_ix (d f : Nat) : 6 * nI d + nI f = nI (6 * d + f) := by
  show nI 6 * nI d + nI f = _
  rw [pk_mul, nI_add]
theorem fd_ix10 (d f : Nat) : 10 * nI d + nI f = nI (10 * d + f) := by
  show nI 10 * nI d + nI f = _
  rw [pk_mul, nI_add]
end
section
section
variable {post : Int32 → Prop} {mn : Int32} {a1 a2 : Nat → Int64} {a3 a4 a5 a6 a7 : Nat → Int32} {a8 : Nat → Int64}
theorem fd_in0 (a b : Bool) (T : a = true → post 1) (F : a = false → post 0) : wpX_in post () (fd_w a b) (nI 0) :=
  ek_if (fd_i0 a b) T (fun h => F (by cases a with | false => rfl | true => exact absurd rfl h))
theorem fd_in1 (a b : Bool) (T : b = true → post 1) (F : b = false → post 0) : wpX_in post () (fd_w a b) (nI 1) :=
  ek_if (fd_i1 a b) T (fun h => F (by cases b with | false => rfl | true => exact absurd rfl h))
theorem fd_tf (f : Nat) (hf : f < 3) (h : post 1) : wpX_isTermField post () (nI f) :=
  br_f (nI_pos (by omega)) (pk_le 3 f (fun z => absurd z (by omega)) (fun _ => h))
theorem fd_tg (f : Nat) (h3 : 3 ≤ f) (hf : f < 6) (h : post 0) : wpX_isTermField post () (nI f) :=
  br_f (nI_pos (by omega)) (pk_le 3 f (fun _ => h) (fun z => absurd z (by omega)))
theorem fd_isTerm (t : Nat) (ht : t < 10) (h : post 1) : wpX_isTerm post () (nI t) :=
  br_f (nI_pos (by omega)) (pk_le 10 t (fun z => absurd z (by omega)) (fun _ => h))
theorem fd_isDoc (d : Nat) (hd : d < 2) (h : post 1) : wpX_isDocument post (fd_w true true, mn, a1, a2, a3, a4, a5, a6, a7, a8) (nI d) :=
  br_f (nI_pos (by omega)) (pk_le 48 d (fun z => absurd z (by omega)) (fun _ => br_t (fd_dbit d hd) h))
theorem fd_isField (f : Nat) (hf : f < 6) (h : post 1) : wpX_isField post () (nI f) :=
  br_f (nI_pos (by omega)) (pk_le 6 f (fun z => absurd z (by omega)) (fun _ => h))
theorem fd_isGroup (f : Nat) (hf : f ≤ 3) (h : post 1) : wpX_isGroup post () (nI f) :=
  br_f (nI_pos (by omega)) (pk_lt 3 f (fun z => absurd z (by omega)) (fun _ => h))
theorem fd_num5 (h : post 1) : wpX_isNumberField post () (nI 5) :=
  br_f (by decide) (br_t (by decide) h)
theorem fd_num3 (h : post 0) : wpX_isNumberField post () (nI 3) :=
  br_f (by decide) (br_f (by decide) h)
theorem fd_fits3 (k : Nat) (hk : k < 256) (h : post 1) : wpX_fits post () (nI 3) (nI k) := by
  unfold wpX_fits
  refine fd_tg 3 (by omega) (by omega) ?_
  exact br_t rfl (br_t rfl (br_f (nI_pos (by omega)) (pk_lt 255 k (fun z => absurd z (by omega)) (fun _ => h))))
theorem fd_m999 {k : Nat} (hk : k < 256) : ¬ nI k < (-999) := by
  rw [Int32.lt_iff_toInt_lt, nI_toInt (by omega)]
  have e : (-999 : Int32).toInt = -999 := by decide
  rw [e]
  omega
theorem fd_fits5 (k : Nat) (hk : k < 256) (h : post 1) : wpX_fits post () (nI 5) (nI k) := by
  unfold wpX_fits
  refine fd_tg 5 (by omega) (by omega) ?_
  exact br_t rfl (br_f (by decide) (br_f (fd_m999 hk) (pk_lt 999 k (fun z => absurd z (by omega)) (fun _ => h))))
theorem fd_termOf (f t : Nat) (hf : f < 3) (ht : t < 10) (h : post 1) : wpX_isTermOf post () (nI f) (nI t) :=
  br_f (nI_pos (by omega)) (pk_eq f 3 (fun z => absurd z (by omega)) (fun _ => pk_le 10 t (fun z => absurd z (by omega)) (fun _ => h)))
/-- the documents counted -/
theorem fd_ones (a b : Bool) (h : post (nI (a.toNat + b.toNat))) : wpX_ones post () (fd_w a b) := by
  refine ⟨4, ?_⟩
  cases a <;> cases b
  · exact br_f (by decide) (br_t rfl h)
  · exact br_f (by decide) (br_f (by decide) (nm_r (e' := 0) (by decide) (nm_r (e' := 1) (by decide) (nm_r (e' := 1) (by decide) (br_f (by decide) (br_t rfl h))))))
  · exact br_f (by decide) (br_f (by decide) (nm_r (e' := 0) (by decide) (nm_r (e' := 1) (by decide) (nm_r (e' := 1) (by decide) (br_f (by decide) (br_t rfl h))))))
  · exact br_f (by decide) (br_f (by decide) (nm_r (e' := 2) (by decide) (nm_r (e' := 1) (by decide) (nm_r (e' := 1) (by decide) (br_f (by decide) (br_f (by decide) (nm_r (e' := 0) (by decide) (nm_r (e' := 2) (by decide) (nm_r (e' := 2) (by decide) (br_f (by decide) (br_t rfl h)))))))))))
end
end
section
section
variable {th : Int64} {mn : Int32} {a1 a2 : Nat → Int64} {a3 a4 a5 a6 a7 : Nat → Int32} {a8 : Nat → Int64}
/-- one step of the search -/
theorem fd_pstep {post : Int32 → Prop} (f B d lo hi i k : Nat) (num doc n : Int32) (hi7 : i < 7) (hlh : lo < hi) (hh : hi ≤ 48) (hB : B ≤ 48) (hf : f < 6) (hd : d < 48)
    (h4 : a4 (B + (lo + hi) / 2) = nI d) (h3 : a3 (6 * d + f) = n)
    (T : fd_lt n (nI d) num doc → wX_placeOf_20 post (nI f) num doc (nI B) th mn a1 a2 a3 a4 a5 a6 a7 a8 k (nI ((lo + hi) / 2 + 1)) (nI hi) (nI (i + 1)))
    (F : ¬ fd_lt n (nI d) num doc → wX_placeOf_20 post (nI f) num doc (nI B) th mn a1 a2 a3 a4 a5 a6 a7 a8 k (nI lo) (nI ((lo + hi) / 2)) (nI (i + 1))) :
    wX_placeOf_20 post (nI f) num doc (nI B) th mn a1 a2 a3 a4 a5 a6 a7 a8 (k + 1) (nI lo) (nI hi) (nI i) := by
  have em : (nI lo + nI hi) / 2 = nI ((lo + hi) / 2) := by
    rw [nI_add]
    exact pk_div (d := 2) (by omega) (by omega) (by omega)
  have e4 : a4 (nI B + nI ((lo + hi) / 2)).toNatClampNeg = nI d := by
    rw [nI_add, nI_clamp (by omega), h4]
  have e3 : a3 (6 * nI d + nI f).toNatClampNeg = n := by
    rw [fd_ix, nI_clamp (by omega), h3]
  have Fn : ∀ {c : Prop}, (fd_lt n (nI d) num doc → c) → ¬ c → ¬ fd_lt n (nI d) num doc := fun g h z => h (g z)
  refine pk_le 7 i (fun z => absurd z (by omega)) (fun _ => pk_le hi lo (fun z => absurd z (by omega)) (fun _ => ⟨by decide, nm_r em ⟨?_, nm_r e4 ⟨?_, nm_r e3 ?_⟩⟩⟩))
  · exact pk_in (B + (lo + hi) / 2) 96 (by omega) (nI_add _ _)
  · exact pk_in (6 * d + f) 288 (by omega) (fd_ix d f)
  · refine br_c (fun c => nm_r (nI_1 _) (nm_r (nI_1 i) (T (Or.inl c)))) (fun c => br_c (fun c2 => br_c (fun c3 => nm_r (nI_1 i) (F ?_)) (fun c3 => nm_r (nI_1 _) (nm_r (nI_1 i) (T (Or.inr ⟨c2, c3⟩))))) (fun c2 => nm_r (nI_1 i) (F ?_)))
    · rintro (z | z)
      · exact c z
      · exact z.2 c3
    · rintro (z | z)
      · exact c z
      · exact c2 z.1
/-- the search ends -/
theorem fd_pend {post : Int32 → Prop} (f B lo i k : Nat) (num doc : Int32) (hi7 : i < 7) (hl : lo ≤ 48) (h : post (nI lo)) :
    wX_placeOf_20 post (nI f) num doc (nI B) th mn a1 a2 a3 a4 a5 a6 a7 a8 (k + 1) (nI lo) (nI lo) (nI i) :=
  pk_le 7 i (fun z => absurd z (by omega)) (fun _ => pk_le lo lo (fun _ => h) (fun z => absurd z (by omega)))
theorem fd_pl0 {post : Int32 → Prop} (f B : Nat) (num doc : Int32) (eB : 48 * (nI f - 4) = nI B) (h : post (nI 0)) :
    wpX_placeOf post (th, nI 0, a1, a2, a3, a4, a5, a6, a7, a8) (nI f) num doc :=
  nm_r eB ⟨1, fd_pend f B 0 0 0 num doc (by omega) (by omega) h⟩
theorem fd_pl1 {post : Int32 → Prop} (f B d : Nat) (num doc n : Int32) (eB : 48 * (nI f - 4) = nI B) (hB : B ≤ 48) (hf : f < 6) (hd : d < 48)
    (h4 : a4 B = nI d) (h3 : a3 (6 * d + f) = n) (T : fd_lt n (nI d) num doc → post (nI 1)) (F : ¬ fd_lt n (nI d) num doc → post (nI 0)) :
    wpX_placeOf post (th, nI 1, a1, a2, a3, a4, a5, a6, a7, a8) (nI f) num doc :=
  nm_r eB ⟨2, fd_pstep f B d 0 1 0 1 num doc n (by omega) (by omega) (by omega) hB hf hd h4 h3
    (fun z => fd_pend f B 1 1 0 num doc (by omega) (by omega) (T z))
    (fun z => fd_pend f B 0 1 0 num doc (by omega) (by omega) (F z))⟩
theorem fd_pl2 {post : Int32 → Prop} (f B d0 d1 : Nat) (num doc n0 n1 : Int32) (eB : 48 * (nI f - 4) = nI B) (hB : B ≤ 48) (hf : f < 6) (hd0 : d0 < 48) (hd1 : d1 < 48)
    (h40 : a4 B = nI d0) (h41 : a4 (B + 1) = nI d1) (h30 : a3 (6 * d0 + f) = n0) (h31 : a3 (6 * d1 + f) = n1)
    (H2 : fd_lt n1 (nI d1) num doc → post (nI 2)) (H1 : ¬ fd_lt n1 (nI d1) num doc → fd_lt n0 (nI d0) num doc → post (nI 1)) (H0 : ¬ fd_lt n1 (nI d1) num doc → ¬ fd_lt n0 (nI d0) num doc → post (nI 0)) :
    wpX_placeOf post (th, nI 2, a1, a2, a3, a4, a5, a6, a7, a8) (nI f) num doc :=
  nm_r eB ⟨3, fd_pstep f B d1 0 2 0 2 num doc n1 (by omega) (by omega) (by omega) hB hf hd1 h41 h31
    (fun z => fd_pend f B 2 1 1 num doc (by omega) (by omega) (H2 z))
    (fun z => fd_pstep f B d0 0 1 1 1 num doc n0 (by omega) (by omega) (by omega) hB hf hd0 h40 h30
      (fun y => fd_pend f B 1 2 0 num doc (by omega) (by omega) (H1 z y))
      (fun y => fd_pend f B 0 2 0 num doc (by omega) (by omega) (H0 z y)))⟩
/-- a document enters behind all others -/
theorem fd_enter0 {post : St2 → Prop} (f B d : Nat) (eB : 48 * (nI f - 4) = nI B) (hB : B ≤ 48) (hf : f < 6) (hd : d < 48)
    (H : post (th, nI 0, a1, a2, a3, upd a4 B (nI d), a5, a6, a7, a8)) : wpX_enter post (th, nI 0, a1, a2, a3, a4, a5, a6, a7, a8) (nI f) (nI d) := by
  unfold wpX_enter
  refine nm_r eB ⟨pk_in (6 * d + f) 288 (by omega) (fd_ix d f), fd_pl0 f B _ _ eB ⟨1, pk_le 0 0 (fun _ => ⟨pk_in (B + 0) 96 (by omega) (nI_add B 0), nm_r ?_ H⟩) (fun z => absurd z (by omega))⟩⟩
  rw [nI_add, nI_clamp (by omega), Nat.add_zero]
theorem fd_enter1 {post : St2 → Prop} (f B d e : Nat) (n num : Int32) (eB : 48 * (nI f - 4) = nI B) (hB : B ≤ 48) (hf : f < 6) (hd : d < 48) (he : e < 48)
    (h4 : a4 B = nI e) (h3 : a3 (6 * e + f) = n) (hn : a3 (6 * d + f) = num)
    (T : fd_lt n (nI e) num (nI d) → post (th, nI 1, a1, a2, a3, upd a4 (B + 1) (nI d), a5, a6, a7, a8))
    (F : ¬ fd_lt n (nI e) num (nI d) → post (th, nI 1, a1, a2, a3, upd (upd a4 (B + 1) (nI e)) B (nI d), a5, a6, a7, a8)) : wpX_enter post (th, nI 1, a1, a2, a3, a4, a5, a6, a7, a8) (nI f) (nI d) := by
  unfold wpX_enter
  have en : a3 (6 * nI d + nI f).toNatClampNeg = num := by
    rw [fd_ix, nI_clamp (by omega), hn]
  refine nm_r eB ⟨pk_in (6 * d + f) 288 (by omega) (fd_ix d f), ?_⟩
  rw [en]
  refine fd_pl1 f B e num _ n eB hB hf he h4 h3 (fun z => ⟨1, pk_le 1 1 (fun _ => ⟨pk_in (B + 1) 96 (by omega) (nI_add B 1), nm_r ?_ (T z)⟩) (fun z => absurd z (by omega))⟩) (fun z => ⟨2, pk_le 1 0 (fun z => absurd z (by omega)) (fun _ => ⟨pk_in B 96 (by omega) ?_, pk_in (B + 1) 96 (by omega) (nI_add B 1), nm_r (e' := upd a4 (B + 1) (nI e)) ?_ (nm_r (e' := nI 0) (by decide) (pk_le 0 0 (fun _ => ⟨pk_in (B + 0) 96 (by omega) (nI_add B 0), nm_r ?_ (F z)⟩) (fun z => absurd z (by omega))))⟩)⟩)
  · rw [nI_add, nI_clamp (by omega)]
  · rw [nI_add, nI_pred]
  · rw [nI_add, nI_pred, nI_clamp (by omega), nI_clamp (by omega), h4]
  · rw [nI_add, nI_clamp (by omega)]
    rfl
/-- a document leaves an order of two -/
theorem fd_leave2 {post : St2 → Prop} (f B d d0 d1 : Nat) (n0 n1 num : Int32) (eB : 48 * (nI f - 4) = nI B) (hB : B ≤ 48) (hf : f < 6) (hd : d < 48) (hd0 : d0 < 48) (hd1 : d1 < 48)
    (h40 : a4 B = nI d0) (h41 : a4 (B + 1) = nI d1) (h30 : a3 (6 * d0 + f) = n0) (h31 : a3 (6 * d1 + f) = n1) (hn : a3 (6 * d + f) = num)
    (H1 : ¬ fd_lt n1 (nI d1) num (nI d)) (T : fd_lt n0 (nI d0) num (nI d) → post (th, nI 2, a1, a2, a3, a4, a5, a6, a7, a8))
    (F : ¬ fd_lt n0 (nI d0) num (nI d) → post (th, nI 2, a1, a2, a3, upd a4 B (nI d1), a5, a6, a7, a8)) : wpX_leave post (th, nI 2, a1, a2, a3, a4, a5, a6, a7, a8) (nI f) (nI d) := by
  unfold wpX_leave
  have en : a3 (6 * nI d + nI f).toNatClampNeg = num := by
    rw [fd_ix, nI_clamp (by omega), hn]
  refine nm_r eB ⟨pk_in (6 * d + f) 288 (by omega) (fd_ix d f), ?_⟩
  rw [en]
  refine fd_pl2 f B d0 d1 num _ n0 n1 eB hB hf hd0 hd1 h40 h41 h30 h31 (fun z => absurd z H1) (fun _ z => ⟨1, pk_le 1 1 (fun _ => T z) (fun z => absurd z (by omega))⟩) (fun _ z => ⟨2, pk_le 1 0 (fun z => absurd z (by omega)) (fun _ => ⟨pk_in (B + 0 + 1) 96 (by omega) ?_, pk_in (B + 0) 96 (by omega) (nI_add B 0), nm_r (e' := upd a4 B (nI d1)) ?_ (nm_r (nI_1 0) (pk_le 1 1 (fun _ => F z) (fun z => absurd z (by omega))))⟩)⟩)
  · rw [nI_add, nI_1]
  · rw [nI_add, nI_1, nI_clamp (by omega), nI_clamp (by omega), Nat.add_zero, h41]
end
end
section
section
variable {th : Int64} {mn : Int32} {a1 a2 : Nat → Int64} {a3 a4 a5 a6 a7 : Nat → Int32} {a8 : Nat → Int64}
theorem fd_mark {post : St2 → Prop} (d f v : Nat) (hd : d < 2) (hf : f < 3) (hv : v < 10)
    (H : post (th, mn, fd_put a1 (10 * f + v) (fd_bit d), a2, a3, a4, a5, a6, a7, a8)) : wpX_mark post (th, mn, a1, a2, a3, a4, a5, a6, a7, a8) (nI d) (nI f) (nI v) (nI 1) := by
  unfold wpX_mark
  refine nm_r (fd_sh d hd) (fd_tf f hf (br_f (by decide) (nm_r (fd_ix10 f v) (br_f (by decide) ⟨pk_in (10 * f + v) 30 (by omega), pk_in (10 * f + v) 30 (by omega), nm_r ?_ H⟩))))
  rw [nI_clamp (by omega)]
  rfl
/-- no tag: nothing is marked -/
theorem fd_mk0 {post : St2 → Prop} (x4 : Int32) (x5 : Int64) (H : post (th, mn, a1, a2, a3, a4, a5, a6, a7, a8)) : ∃ n, wX_mark_63 post (nI 0) x4 x5 th mn n 0 a1 a2 a3 a4 a5 a6 a7 a8 :=
  pk_loop (σ := Unit) (fun n i _ => wX_mark_63 post (nI 0) x4 x5 th mn n (nI i) a1 a2 a3 a4 a5 a6 a7 a8) (fun _ _ => True) 8 0 () (by omega) trivial
    (fun n _ _ => pk_le 8 8 (fun _ => H) (fun z => absurd z (by omega)))
    (fun n i _ hi _ hw => pk_le 8 i (fun z => absurd z (by omega)) (fun _ => ek_if fd_bI (fun z => absurd (show fd_b 0 i = true from z) (by rw [fd_b0 (by omega)]; decide)) (fun _ => nm_r (nI_1 i) (hw () trivial))))
/-- tags are marked -/
theorem fd_mk1 {post : St2 → Prop} (x3 : Int32) (x5 : Int64) (H : ∀ a, (∀ g, g < 8 → a g = bif fd_b x3 g then a2 g ||| x5 else a2 g) → post (th, mn, a1, a, a3, a4, a5, a6, a7, a8)) : ∃ n, wX_mark_63 post x3 (nI 1) x5 th mn n 0 a1 a2 a3 a4 a5 a6 a7 a8 :=
  pk_loop (fun n i s => wX_mark_63 post x3 (nI 1) x5 th mn n (nI i) a1 s a3 a4 a5 a6 a7 a8) (fun i s => (∀ g, g < i → s g = bif fd_b x3 g then a2 g ||| x5 else a2 g) ∧ ∀ g, i ≤ g → s g = a2 g) 8 0 a2 (by omega) ⟨fun g hg => absurd hg (by omega), fun _ _ => rfl⟩
    (fun n s h => pk_le 8 8 (fun _ => H s h.1) (fun z => absurd z (by omega)))
    (fun n i s hi h hw => pk_le 8 i (fun z => absurd z (by omega)) (fun _ => ek_if fd_bI
      (fun z => br_f (by decide) ⟨pk_in i 8 hi, pk_in i 8 hi, nm_r (e' := fd_put s i x5) (by rw [nI_clamp (by omega)]; rfl) (nm_r (nI_1 i) (hw _ ⟨fun g hg => by
        by_cases e : g = i
        · rw [e, fd_ps, h.2 i (by omega), z]
          rfl
        · rw [fd_pn e]
          exact h.1 g (by omega), fun g hg => by
        rw [fd_pn (by omega)]
        exact h.2 g (by omega)⟩))⟩)
      (fun z => nm_r (nI_1 i) (hw _ ⟨fun g hg => by
        by_cases e : g = i
        · rw [e, h.2 i (by omega), Bool.eq_false_iff.mpr z]
          rfl
        · exact h.1 g (by omega), fun g hg => h.2 g (by omega)⟩))))
/-- no filter: all pass -/
theorem fd_refr {post : St2 → Prop} (f : Nat) (hf : f < 6) (h5 : a5 f = 0) (H : post (th, mn, a1, a2, a3, a4, a5, a6, a7, vp_updL a8 f th)) : wpX_refresh post (th, mn, a1, a2, a3, a4, a5, a6, a7, a8) (nI f) := by
  unfold wpX_refresh
  refine ⟨pk_in f 6 hf, br_t ?_ ⟨pk_in f 6 hf, nm_r ?_ H⟩⟩
  · rw [nI_clamp (by omega), h5]
  · rw [nI_clamp (by omega)]
theorem fd_refrAll {post : St2 → Prop} (h5 : ∀ j, j < 6 → a5 j = 0) (H : ∀ a, (∀ j, j < 6 → a j = th) → post (th, mn, a1, a2, a3, a4, a5, a6, a7, a)) : wpX_refreshAll post (th, mn, a1, a2, a3, a4, a5, a6, a7, a8) := by
  unfold wpX_refreshAll
  exact pk_loop (fun n i s => wX_refreshAll_2 post n (nI i) th mn a1 a2 a3 a4 a5 a6 a7 s) (fun i s => ∀ j, j < i → s j = th) 6 0 a8 (by omega) (fun j hj => absurd hj (by omega))
    (fun n s h => pk_le 6 6 (fun _ => H s h) (fun z => absurd z (by omega)))
    (fun n i s hi h hw => pk_le 6 i (fun z => absurd z (by omega)) (fun _ => fd_refr i hi (h5 i hi) (nm_r (nI_1 i) (hw _ (fun j hj => by
      by_cases e : j = i
      · rw [e, pk_uLs]
      · rw [pk_uLn e]
        exact h j (by omega))))))
/-- the values of a new document, its marks, its places -/
theorem fd_m73 {post : Int32 → St2 → Prop} (d u b c : Nat) (hd : d < 2) (hu : u < 10) (hb : b < 10) (hc : c < 10) (h5 : ∀ j, j < 6 → a5 j = 0)
    (hm : d = 0 ∨ (d = 1 ∧ a4 0 = nI 0 ∧ a4 48 = nI 0 ∧ a3 4 = 0 ∧ a3 5 = 0))
    (H : ∀ b3 b8, (∀ j, j < 6 * d → b3 j = a3 j) → (∀ j, 3 ≤ j → j < 6 → b3 (6 * d + j) = 0) → (∀ j, j < 6 → b8 j = th) →
      post (nI d) (th, nI (d + 1), fd_put (fd_put (fd_put a1 (10 * 0 + u) (fd_bit d)) (10 * 1 + b) (fd_bit d)) (10 * 2 + c) (fd_bit d), a2, b3, upd (upd a4 (0 + d) (nI d)) (48 + d) (nI d), a5, a6, a7, b8)) :
    ∃ n, wX_make_73 post (nI u) (nI b) (nI c) (nI d) th (nI d) n 0 a1 a2 a3 a4 a5 a6 a7 a8 := by
  refine pk_loop (fun n i s => wX_make_73 post (nI u) (nI b) (nI c) (nI d) th (nI d) n (nI i) a1 a2 s a4 a5 a6 a7 a8) (fun i s => (∀ j, j < 6 * d → s j = a3 j) ∧ ∀ j, 3 ≤ j → j < i → s (6 * d + j) = 0) 6 0 a3 (by omega) ⟨fun _ _ => rfl, fun j _ hj => absurd hj (by omega)⟩ ?_ ?_
  · intro n s h
    refine pk_le 6 6 (fun _ => ?_) (fun z => absurd z (by omega))
    refine fd_mark d 0 u hd (by omega) hu (fd_mark d 1 b hd (by omega) hb (fd_mark d 2 c hd (by omega) hc ?_))
    have s4 : s (6 * d + 4) = 0 := h.2 4 (by omega) (by omega)
    have s5 : s (6 * d + 5) = 0 := h.2 5 (by omega) (by omega)
    rcases hm with rfl | ⟨rfl, e0, e48, f4, f5⟩
    · exact fd_enter0 4 0 0 (by decide) (by omega) (by omega) (by omega) (fd_enter0 5 48 0 (by decide) (by omega) (by omega) (by omega) (nm_r (nI_1 0) (fd_refrAll h5 (fun a ha => H s a h.1 h.2 ha))))
    · have L : fd_lt 0 (nI 0) 0 (nI 1) := Or.inr ⟨rfl, by decide⟩
      refine fd_enter1 4 0 1 0 0 0 (by decide) (by omega) (by omega) (by omega) (by omega) e0 ((h.1 4 (by omega)).trans f4) s4 (fun _ => ?_) (fun z => absurd L z)
      refine fd_enter1 5 48 1 0 0 0 (by decide) (by omega) (by omega) (by omega) (by omega) ((pk_un (by omega)).trans e48) ((h.1 5 (by omega)).trans f5) s5 (fun _ => ?_) (fun z => absurd L z)
      exact nm_r (nI_1 1) (fd_refrAll h5 (fun a ha => H s a h.1 h.2 ha))
  · intro n i s hi h hw
    have hs : ∀ x, (3 ≤ i → x = 0) → wX_make_73 post (nI u) (nI b) (nI c) (nI d) th (nI d) n (nI (i + 1)) a1 a2 (upd s (6 * d + i) x) a4 a5 a6 a7 a8 := by
      intro x hx
      refine hw _ ⟨fun j hj => ?_, fun j h3 hj => ?_⟩
      · rw [pk_un (by omega)]
        exact h.1 j hj
      · by_cases e : j = i
        · rw [e, pk_us]
          exact hx (by omega)
        · rw [pk_un (by omega)]
          exact h.2 j h3 (by omega)
    have ei : ∀ x, upd s (6 * nI d + nI i).toNatClampNeg x = upd s (6 * d + i) x := by
      intro x
      rw [fd_ix, nI_clamp (by omega)]
    have hin : vp_in (6 * nI d + nI i) 288 := pk_in (6 * d + i) 288 (by omega) (fd_ix d i)
    exact pk_le 6 i (fun z => absurd z (by omega)) (fun _ => pk_eq i 0 (fun z => ⟨hin, nm_r (ei _) (nm_r (nI_1 i) (hs _ (fun y => absurd y (by omega))))⟩)
      (fun _ => pk_eq i 1 (fun z => ⟨hin, nm_r (ei _) (nm_r (nI_1 i) (hs _ (fun y => absurd y (by omega))))⟩)
      (fun _ => pk_eq i 2 (fun z => ⟨hin, nm_r (ei _) (nm_r (nI_1 i) (hs _ (fun y => absurd y (by omega))))⟩)
      (fun _ => ⟨hin, nm_r (ei _) (nm_r (nI_1 i) (hs _ (fun _ => rfl)))⟩))))
theorem fd_make0 {post : Int32 → St2 → Prop} (u b c : Nat) (hu : u < 10) (hb : b < 10) (hc : c < 10) (h5 : ∀ j, j < 6 → a5 j = 0)
    (H : ∀ b3 b8, (∀ j, 3 ≤ j → j < 6 → b3 (6 * 0 + j) = 0) → (∀ j, j < 6 → b8 j = fd_w true false) →
      post (nI 0) (fd_w true false, nI 1, fd_put (fd_put (fd_put a1 (10 * 0 + u) (fd_bit 0)) (10 * 1 + b) (fd_bit 0)) (10 * 2 + c) (fd_bit 0), a2, b3, upd (upd a4 (0 + 0) (nI 0)) (48 + 0) (nI 0), a5, a6, a7, b8)) :
    wpX_make post (fd_w false false, nI 0, a1, a2, a3, a4, a5, a6, a7, a8) (nI u) (nI b) (nI c) := by
  unfold wpX_make
  refine fd_isTerm u hu (br_f (by decide) (fd_isTerm b hb (br_f (by decide) (fd_isTerm c hc (br_f (by decide) (br_t (by decide) ⟨1, ?_⟩))))))
  rw [wX_make_39]
  refine fd_in0 false false ?_ ?_
  · intro z
    exact absurd z (by decide)
  intro _
  refine br_t rfl (nm_r (e' := fd_w true false) (by decide) ?_)
  exact fd_m73 0 u b c (by omega) hu hb hc h5 (Or.inl rfl) (fun b3 b8 _ h3 h8 => H b3 b8 h3 h8)
theorem fd_make1 {post : Int32 → St2 → Prop} (u b c : Nat) (hu : u < 10) (hb : b < 10) (hc : c < 10) (h5 : ∀ j, j < 6 → a5 j = 0)
    (e0 : a4 0 = nI 0) (e48 : a4 48 = nI 0) (f4 : a3 4 = 0) (f5 : a3 5 = 0)
    (H : ∀ b3 b8, (∀ j, j < 6 * 1 → b3 j = a3 j) → (∀ j, 3 ≤ j → j < 6 → b3 (6 * 1 + j) = 0) → (∀ j, j < 6 → b8 j = fd_w true true) →
      post (nI 1) (fd_w true true, nI 2, fd_put (fd_put (fd_put a1 (10 * 0 + u) (fd_bit 1)) (10 * 1 + b) (fd_bit 1)) (10 * 2 + c) (fd_bit 1), a2, b3, upd (upd a4 (0 + 1) (nI 1)) (48 + 1) (nI 1), a5, a6, a7, b8)) :
    wpX_make post (fd_w true false, nI 1, a1, a2, a3, a4, a5, a6, a7, a8) (nI u) (nI b) (nI c) := by
  unfold wpX_make
  refine fd_isTerm u hu (br_f (by decide) (fd_isTerm b hb (br_f (by decide) (fd_isTerm c hc (br_f (by decide) (br_t (by decide) ⟨2, ?_⟩))))))
  rw [wX_make_39]
  refine fd_in0 true false ?_ ?_
  rotate_left
  · intro z
    exact absurd z (by decide)
  intro _
  refine br_f (by decide) (nm_r (nI_1 0) ?_)
  rw [wX_make_39]
  refine fd_in1 true false ?_ ?_
  · intro z
    exact absurd z (by decide)
  intro _
  refine br_t rfl (nm_r (e' := fd_w true true) (by decide) ?_)
  exact fd_m73 1 u b c (by omega) hu hb hc h5 (Or.inr ⟨rfl, e0, e48, f4, f5⟩) (fun b3 b8 h2 h3 h8 => H b3 b8 h2 h3 h8)
end
end
section
/-- numbers and order of the two documents in field 5 -/
def fd_ord (n0 n1 : Nat) (a3 a4 : Nat → Int32) : Prop :=
  a3 5 = nI n0 ∧ a3 11 = nI n1 ∧ ((n0 ≤ n1 ∧ a4 48 = nI 0 ∧ a4 49 = nI 1) ∨ (n1 < n0 ∧ a4 48 = nI 1 ∧ a4 49 = nI 0))
theorem fd_ltN {n d m e : Nat} (hn : n < 2 ^ 31) (hd : d < 2 ^ 31) (hm : m < 2 ^ 31) (he : e < 2 ^ 31) : fd_lt (nI n) (nI d) (nI m) (nI e) ↔ n < m ∨ (n = m ∧ d < e) := by
  unfold fd_lt
  rw [nI_ltI hn hm, nI_eq hn hm, nI_leI he hd]
  omega
section
variable {th : Int64} {mn : Int32} {a1 a2 : Nat → Int64} {a3 a4 a5 a6 a7 : Nat → Int32} {a8 : Nat → Int64}
theorem fd_markG {post : St2 → Prop} (d : Nat) (hd : d < 2) (x3 x4 : Int32) (H : ∃ n, wX_mark_63 post x3 x4 (fd_bit d) th mn n 0 a1 a2 a3 a4 a5 a6 a7 a8) : wpX_mark post (th, mn, a1, a2, a3, a4, a5, a6, a7, a8) (nI d) (nI 3) x3 x4 := by
  unfold wpX_mark
  exact nm_r (fd_sh d hd) (fd_tg 3 (by omega) (by omega) (br_t rfl H))
theorem fd_keep {f : Nat → Int64} {k : Nat} {x : Int64} (j : Nat) (h : f j = x) : vp_updL f k x j = x := by
  by_cases e : j = k
  · rw [e, pk_uLs]
  · rw [pk_uLn e, h]
theorem fd_setT {post : Int32 → St2 → Prop} (d k : Nat) (hd : d < 2) (hk : k < 256) (h5 : a5 3 = 0) (h3 : a3 (6 * d + 3) = 0)
    (H : ∀ r b2 b3 b8, (∀ g, g < 8 → b2 g = bif fd_b (nI k) g then a2 g ||| fd_bit d else a2 g) → (∀ j, j ≠ 6 * d + 3 → b3 j = a3 j) → (∀ j, a8 j = fd_w true true → b8 j = fd_w true true) → post r (fd_w true true, nI 2, a1, b2, b3, a4, a5, a6, a7, b8)) :
    wpX_set post (fd_w true true, nI 2, a1, a2, a3, a4, a5, a6, a7, a8) (nI d) (nI 3) (nI k) := by
  unfold wpX_set
  refine fd_isDoc d hd (br_f (by decide) (fd_isField 3 (by omega) (br_f (by decide) (fd_fits3 k hk (br_f (by decide) (nm_r (fd_ix d 3) ⟨pk_in (6 * d + 3) 288 (by omega), nm_r (e' := nI 0) ?_ (pk_eq 0 k (fun z => ?_) (fun z => fd_num3 (br_t rfl ?_)))⟩))))))
  · rw [nI_clamp (by omega), h3]
    rfl
  · subst z
    exact H 0 a2 a3 a8 (fun g hg => by rw [show fd_b (nI 0) g = false from fd_b0 (by omega)]; rfl) (fun _ _ => rfl) (fun _ h => h)
  · refine fd_markG d hd _ _ (fd_mk0 _ _ ?_)
    refine fd_markG d hd _ _ (fd_mk1 _ _ (fun b2 hb2 => ⟨pk_in (6 * d + 3) 288 (by omega), nm_r (e' := upd a3 (6 * d + 3) (nI k)) (by rw [nI_clamp (by omega)]) ?_⟩))
    unfold wX_set_131
    exact fd_refr 3 (by omega) h5 (H 1 b2 _ _ hb2 (fun j hj => pk_un hj) (fun j hj => fd_keep j hj))
theorem fd_leaveA {post : St2 → Prop} (n0 n1 : Nat) (hn0 : n0 < 256) (hn1 : n1 < 256) (h : fd_ord n0 n1 a3 a4) (H : ∀ b4, b4 48 = nI 1 → post (th, nI 2, a1, a2, a3, b4, a5, a6, a7, a8)) :
    wpX_leave post (th, nI 2, a1, a2, a3, a4, a5, a6, a7, a8) (nI 5) (nI 0) := by
  obtain ⟨e0, e1, ⟨hc, p, q⟩ | ⟨hc, p, q⟩⟩ := h
  · refine fd_leave2 5 48 0 0 1 (nI n0) (nI n1) (nI n0) (by decide) (by omega) (by omega) (by omega) (by omega) (by omega) p q e0 e1 e0 ?_ ?_ ?_
    · rw [fd_ltN (by omega) (by omega) (by omega) (by omega)]; omega
    · rw [fd_ltN (by omega) (by omega) (by omega) (by omega)]; intro z; exact absurd z (by omega)
    · intro _; exact H _ pk_us
  · refine fd_leave2 5 48 0 1 0 (nI n1) (nI n0) (nI n0) (by decide) (by omega) (by omega) (by omega) (by omega) (by omega) p q e1 e0 e0 ?_ ?_ ?_
    · rw [fd_ltN (by omega) (by omega) (by omega) (by omega)]; omega
    · intro _; exact H _ p
    · rw [fd_ltN (by omega) (by omega) (by omega) (by omega)]; intro z; exact absurd z (by omega)
theorem fd_leaveB {post : St2 → Prop} (n0 n1 : Nat) (hn0 : n0 < 256) (hn1 : n1 < 256) (h : fd_ord n0 n1 a3 a4) (H : ∀ b4, b4 48 = nI 0 → post (th, nI 2, a1, a2, a3, b4, a5, a6, a7, a8)) :
    wpX_leave post (th, nI 2, a1, a2, a3, a4, a5, a6, a7, a8) (nI 5) (nI 1) := by
  obtain ⟨e0, e1, ⟨hc, p, q⟩ | ⟨hc, p, q⟩⟩ := h
  · refine fd_leave2 5 48 1 0 1 (nI n0) (nI n1) (nI n1) (by decide) (by omega) (by omega) (by omega) (by omega) (by omega) p q e0 e1 e1 ?_ ?_ ?_
    · rw [fd_ltN (by omega) (by omega) (by omega) (by omega)]; omega
    · intro _; exact H _ p
    · rw [fd_ltN (by omega) (by omega) (by omega) (by omega)]; intro z; exact absurd z (by omega)
  · refine fd_leave2 5 48 1 1 0 (nI n1) (nI n0) (nI n1) (by decide) (by omega) (by omega) (by omega) (by omega) (by omega) p q e1 e0 e1 ?_ ?_ ?_
    · rw [fd_ltN (by omega) (by omega) (by omega) (by omega)]; omega
    · rw [fd_ltN (by omega) (by omega) (by omega) (by omega)]; intro z; exact absurd z (by omega)
    · intro _; exact H _ pk_us
theorem fd_setA {post : Int32 → St2 → Prop} (n0 n1 w : Nat) (hn0 : n0 < 256) (hn1 : n1 < 256) (hw : w < 256) (h5 : a5 5 = 0) (h : fd_ord n0 n1 a3 a4)
    (H : ∀ r b3 b4 b8, fd_ord w n1 b3 b4 → (∀ j, a8 j = fd_w true true → b8 j = fd_w true true) → post r (fd_w true true, nI 2, a1, a2, b3, b4, a5, a6, a7, b8)) :
    wpX_set post (fd_w true true, nI 2, a1, a2, a3, a4, a5, a6, a7, a8) (nI 0) (nI 5) (nI w) := by
  unfold wpX_set
  refine fd_isDoc 0 (by omega) (br_f (by decide) (fd_isField 5 (by omega) (br_f (by decide) (fd_fits5 w hw (br_f (by decide) (nm_r (fd_ix 0 5) ⟨pk_in (6 * 0 + 5) 288 (by omega), nm_r (e' := nI n0) ?_ (pk_eq n0 w (fun z => ?_) (fun z => fd_num5 (br_f (by decide) ?_)))⟩))))))
  · rw [nI_clamp (by omega)]
    exact h.1
  · subst z
    exact H 0 a3 a4 a8 h (fun _ h => h)
  · refine fd_leaveA n0 n1 hn0 hn1 h (fun b4 hb4 => nm_r (nI_pred 1) ⟨pk_in (6 * 0 + 5) 288 (by omega), nm_r (e' := upd a3 5 (nI w)) (by rw [nI_clamp (by omega)]) ?_⟩)
    have e11 : upd a3 5 (nI w) 11 = nI n1 := (pk_un (by omega)).trans h.2.1
    refine fd_enter1 5 48 0 1 (nI n1) (nI w) (by decide) (by omega) (by omega) (by omega) (by omega) hb4 e11 pk_us ?_ ?_
    · intro c
      rw [fd_ltN (by omega) (by omega) (by omega) (by omega)] at c
      refine nm_r (nI_1 1) ?_
      unfold wX_set_131
      exact fd_refr 5 (by omega) h5 (H 1 _ _ _ ⟨pk_us, e11, Or.inr ⟨by omega, (pk_un (by omega)).trans hb4, pk_us⟩⟩ (fun j hj => fd_keep j hj))
    · intro c
      rw [fd_ltN (by omega) (by omega) (by omega) (by omega)] at c
      refine nm_r (nI_1 1) ?_
      unfold wX_set_131
      exact fd_refr 5 (by omega) h5 (H 1 _ _ _ ⟨pk_us, e11, Or.inl ⟨by omega, pk_us, (pk_un (by omega)).trans pk_us⟩⟩ (fun j hj => fd_keep j hj))
theorem fd_setB {post : Int32 → St2 → Prop} (n0 n1 w : Nat) (hn0 : n0 < 256) (hn1 : n1 < 256) (hw : w < 256) (h5 : a5 5 = 0) (h : fd_ord n0 n1 a3 a4)
    (H : ∀ r b3 b4 b8, fd_ord n0 w b3 b4 → (∀ j, a8 j = fd_w true true → b8 j = fd_w true true) → post r (fd_w true true, nI 2, a1, a2, b3, b4, a5, a6, a7, b8)) :
    wpX_set post (fd_w true true, nI 2, a1, a2, a3, a4, a5, a6, a7, a8) (nI 1) (nI 5) (nI w) := by
  unfold wpX_set
  refine fd_isDoc 1 (by omega) (br_f (by decide) (fd_isField 5 (by omega) (br_f (by decide) (fd_fits5 w hw (br_f (by decide) (nm_r (fd_ix 1 5) ⟨pk_in (6 * 1 + 5) 288 (by omega), nm_r (e' := nI n1) ?_ (pk_eq n1 w (fun z => ?_) (fun z => fd_num5 (br_f (by decide) ?_)))⟩))))))
  · rw [nI_clamp (by omega)]
    exact h.2.1
  · subst z
    exact H 0 a3 a4 a8 h (fun _ h => h)
  · refine fd_leaveB n0 n1 hn0 hn1 h (fun b4 hb4 => nm_r (nI_pred 1) ⟨pk_in (6 * 1 + 5) 288 (by omega), nm_r (e' := upd a3 11 (nI w)) (by rw [nI_clamp (by omega)]) ?_⟩)
    have e5 : upd a3 11 (nI w) 5 = nI n0 := (pk_un (by omega)).trans h.1
    refine fd_enter1 5 48 1 0 (nI n0) (nI w) (by decide) (by omega) (by omega) (by omega) (by omega) hb4 e5 pk_us ?_ ?_
    · intro c
      rw [fd_ltN (by omega) (by omega) (by omega) (by omega)] at c
      refine nm_r (nI_1 1) ?_
      unfold wX_set_131
      exact fd_refr 5 (by omega) h5 (H 1 _ _ _ ⟨e5, pk_us, Or.inl ⟨by omega, (pk_un (by omega)).trans hb4, pk_us⟩⟩ (fun j hj => fd_keep j hj))
    · intro c
      rw [fd_ltN (by omega) (by omega) (by omega) (by omega)] at c
      refine nm_r (nI_1 1) ?_
      unfold wX_set_131
      exact fd_refr 5 (by omega) h5 (H 1 _ _ _ ⟨e5, pk_us, Or.inr ⟨by omega, pk_us, (pk_un (by omega)).trans pk_us⟩⟩ (fun j hj => fd_keep j hj))
end
end
section
theorem fd_ws1 {z : Int32} {i : Nat} (u : Nat) (hz : fd_b z i = true) : (decide (u < i) && fd_b z u || decide (u = i)) = (decide (u < i + 1) && fd_b z u) := by
  by_cases e : u = i
  · subst e
    rw [hz, decide_eq_true rfl, decide_eq_true (show u < u + 1 by omega), Bool.or_true]
    rfl
  · have h : decide (u < i + 1) = decide (u < i) := decide_eq_decide.mpr (by omega)
    rw [decide_eq_false e, Bool.or_false, h]
theorem fd_ws0 {z : Int32} {i : Nat} (u : Nat) (hz : ¬ fd_b z i = true) : (decide (u < i) && fd_b z u) = (decide (u < i + 1) && fd_b z u) := by
  by_cases e : u = i
  · subst e
    rw [Bool.eq_false_iff.mpr hz, Bool.and_false, Bool.and_false]
  · have h : decide (u < i + 1) = decide (u < i) := decide_eq_decide.mpr (by omega)
    rw [h]
/-- a number between two -/
def fd_btw (z w : Int32) (n : Nat) : Bool := decide (z.toInt ≤ (n : Int) ∧ (n : Int) ≤ w.toInt)
theorem fd_ltz (z : Int32) {n : Nat} (hn : n < 2 ^ 31) : nI n < z ↔ (n : Int) < z.toInt := by rw [Int32.lt_iff_toInt_lt, nI_toInt hn]
theorem fd_gtz (z : Int32) {n : Nat} (hn : n < 2 ^ 31) : z < nI n ↔ z.toInt < (n : Int) := by rw [Int32.lt_iff_toInt_lt, nI_toInt hn]
theorem fd_eqz (z : Int32) {n : Nat} (hn : n < 2 ^ 31) : nI n = z ↔ (n : Int) = z.toInt := by rw [← Int32.toInt_inj, nI_toInt hn]
theorem fd_lo (z : Int32) {n d : Nat} (hn : n < 2 ^ 31) (hd : d < 2) : fd_lt (nI n) (nI d) z (-1) ↔ (n : Int) < z.toInt := by
  have h : (-1 : Int32) ≤ nI d := by
    rcases (show d = 0 ∨ d = 1 by omega) with rfl | rfl <;> decide
  unfold fd_lt
  rw [fd_ltz z hn]
  exact ⟨fun t => t.elim id (fun y => absurd h y.2), Or.inl⟩
theorem fd_hi (z : Int32) {n d : Nat} (hn : n < 2 ^ 31) (hd : d < 2) : fd_lt (nI n) (nI d) z 48 ↔ (n : Int) ≤ z.toInt := by
  have h : ¬ (48 : Int32) ≤ nI d := by
    rcases (show d = 0 ∨ d = 1 by omega) with rfl | rfl <;> decide
  unfold fd_lt
  rw [fd_ltz z hn, fd_eqz z hn]
  constructor
  · rintro (t | t)
    · omega
    · have := t.1
      omega
  · intro t
    by_cases e : (n : Int) = z.toInt
    · exact Or.inr ⟨e, h⟩
    · exact Or.inl (by omega)
section
variable {th : Int64} {mn : Int32} {a1 a2 : Nat → Int64} {a3 a4 a5 a6 a7 : Nat → Int32} {a8 : Nat → Int64}
theorem fd_wT {post : Int64 → Prop} (u v : Nat) (hu : u < 8) (hv : v < 8) (z : Int32) (h1 : ∀ t, t < 10 → a1 t = fd_w (decide (u = t)) (decide (v = t)))
    (H : post (fd_w (fd_b z u) (fd_b z v))) : wpX_withTerms post (th, mn, a1, a2, a3, a4, a5, a6, a7, a8) (nI 0) z := by
  unfold wpX_withTerms
  refine pk_loop (fun n i s => wX_withTerms_5 post (nI 0) z th mn a1 a2 a3 a4 a5 a6 a7 a8 n s (nI i)) (fun i s => s = fd_w (decide (u < i) && fd_b z u) (decide (v < i) && fd_b z v)) 10 0 (0 : Int64) (by omega) (by rw [decide_eq_false (show ¬ u < 0 by omega), decide_eq_false (show ¬ v < 0 by omega)]; rfl) ?_ ?_
  · intro n s h
    refine pk_le 10 10 (fun _ => ?_) (fun z => absurd z (by omega))
    rw [h, decide_eq_true (show u < 10 by omega), decide_eq_true (show v < 10 by omega)]
    exact H
  · intro n i s hi h hw
    refine pk_le 10 i (fun z => absurd z (by omega)) (fun _ => ek_if fd_bI (fun hz => ⟨pk_in (10 * 0 + i) 30 (by omega) (fd_ix10 0 i), nm_e (nm_r (nI_1 i) (hw _ ?_))⟩) (fun hz => nm_e (nm_r (nI_1 i) (hw _ ?_))))
    · rw [fd_ix10, nI_clamp (by omega), show 10 * 0 + i = i by omega, h1 i hi, h, fd_or, fd_ws1 u hz, fd_ws1 v hz]
    · rw [h]
      refine (fd_or _ _ false false).trans ?_
      rw [Bool.or_false, Bool.or_false, fd_ws0 u hz, fd_ws0 v hz]
theorem fd_wG {post : Int64 → Prop} (z w p q : Int32) (h2 : ∀ g, g < 8 → a2 g = fd_w (fd_b p g) (fd_b q g))
    (H0 : w = 0 → post (fd_w (fd_any z p 8) (fd_any z q 8))) (H1 : ¬ w = 0 → w = 1 → post (fd_w (fd_all z p 8) (fd_all z q 8))) (H2 : ¬ w = 0 → ¬ w = 1 → post (fd_w (!fd_any z p 8) (!fd_any z q 8))) :
    wpX_withTags post (fd_w true true, mn, a1, a2, a3, a4, a5, a6, a7, a8) z w := by
  unfold wpX_withTags
  refine pk_loop (σ := Int64 × Int64) (fun n i s => wX_withTags_11 post z w (fd_w true true) mn a1 a2 a3 a4 a5 a6 a7 a8 n s.1 s.2 (nI i)) (fun i s => s.1 = fd_w (fd_any z p i) (fd_any z q i) ∧ s.2 = fd_w (fd_all z p i) (fd_all z q i)) 8 0 ((0 : Int64), fd_w true true) (by omega) ⟨rfl, rfl⟩ ?_ ?_
  · rintro n ⟨s1, s2⟩ ⟨h, h'⟩
    dsimp only at h h' ⊢
    subst h h'
    refine pk_le 8 8 (fun _ => br_c H0 (fun c => br_c (H1 c) (fun c2 => ?_))) (fun z => absurd z (by omega))
    rw [fd_not]
    exact H2 c c2
  · rintro n i ⟨s1, s2⟩ hi ⟨h, h'⟩ hw
    dsimp only at h h' ⊢
    subst h h'
    refine pk_le 8 i (fun z => absurd z (by omega)) (fun _ => ek_if fd_bI (fun hz => ⟨pk_in i 8 hi, nm_r (e' := fd_w (fd_any z p (i + 1)) (fd_any z q (i + 1))) ?_ ⟨pk_in i 8 hi, nm_r (e' := fd_w (fd_all z p (i + 1)) (fd_all z q (i + 1))) ?_ (nm_r (nI_1 i) (hw (_, _) ⟨rfl, rfl⟩))⟩⟩) (fun hz => nm_r (nI_1 i) ?_))
    · rw [nI_clamp (by omega), h2 i hi, fd_or]
      show _ = fd_w (fd_any z p i || (fd_b z i && fd_b p i)) (fd_any z q i || (fd_b z i && fd_b q i))
      rw [hz]
      rfl
    · rw [nI_clamp (by omega), h2 i hi, fd_and]
      show _ = fd_w (fd_all z p i && (!fd_b z i || fd_b p i)) (fd_all z q i && (!fd_b z i || fd_b q i))
      rw [hz]
      rfl
    · have hz' : fd_b z i = false := Bool.eq_false_iff.mpr hz
      have e1 : ∀ y, fd_any z y (i + 1) = fd_any z y i := by
        intro y
        show (fd_any z y i || (fd_b z i && fd_b y i)) = _
        rw [hz', Bool.false_and, Bool.or_false]
      have e2 : ∀ y, fd_all z y (i + 1) = fd_all z y i := by
        intro y
        show (fd_all z y i && (!fd_b z i || fd_b y i)) = _
        rw [hz', Bool.not_false, Bool.true_or, Bool.and_true]
      exact hw (fd_w (fd_any z p i) (fd_any z q i), fd_w (fd_all z p i) (fd_all z q i)) ⟨by rw [e1, e1], by rw [e2, e2]⟩
/-- a stretch of the order: its step, its end -/
theorem fd_sstep {post : Int64 → Prop} (to k d n : Nat) (s s' : Int64) (hk : k < to) (h2 : to ≤ 2) (hd : d < 2) (h4 : a4 (48 + k) = nI d) (hs : s ||| fd_bit d = s')
    (H : wX_stretch_42 post (nI 48) (nI to) th mn a1 a2 a3 a4 a5 a6 a7 a8 n s' (nI (k + 1))) :
    wX_stretch_42 post (nI 48) (nI to) th mn a1 a2 a3 a4 a5 a6 a7 a8 (n + 1) s (nI k) := by
  refine pk_le to k (fun z => absurd z (by omega)) (fun _ => ⟨pk_in (48 + k) 96 (by omega) (nI_add 48 k), nm_r (e' := s') ?_ (nm_r (nI_1 k) H)⟩)
  rw [nI_add, nI_clamp (by omega), h4, fd_sh d hd, hs]
theorem fd_send {post : Int64 → Prop} (to n : Nat) (s : Int64) (h2 : to ≤ 2) (H : post s) : wX_stretch_42 post (nI 48) (nI to) th mn a1 a2 a3 a4 a5 a6 a7 a8 (n + 1) s (nI to) :=
  pk_le to to (fun _ => H) (fun z => absurd z (by omega))
theorem fd_str2 {post : Int64 → Prop} (d0 d1 m0 m1 : Nat) (hd0 : d0 < 2) (hd1 : d1 < 2) (hm : m0 ≤ m1) (hm1 : m1 < 256) (z w : Int32)
    (h40 : a4 48 = nI d0) (h41 : a4 49 = nI d1) (h30 : a3 (6 * d0 + 5) = nI m0) (h31 : a3 (6 * d1 + 5) = nI m1)
    (H : ∀ b0 b1, fd_btw z w m0 = b0 → fd_btw z w m1 = b1 → post ((bif b0 then fd_bit d0 else fd_w false false) ||| (bif b1 then fd_bit d1 else fd_w false false))) :
    wpX_stretch post (th, nI 2, a1, a2, a3, a4, a5, a6, a7, a8) (nI 5) z w := by
  have eo : ∀ b0 b1, ((z.toInt ≤ (m0 : Int) ∧ (m0 : Int) ≤ w.toInt) ↔ b0 = true) → ((z.toInt ≤ (m1 : Int) ∧ (m1 : Int) ≤ w.toInt) ↔ b1 = true) → post ((bif b0 then fd_bit d0 else fd_w false false) ||| (bif b1 then fd_bit d1 else fd_w false false)) := by
    intro b0 b1 c0 c1
    refine H b0 b1 ?_ ?_
    · unfold fd_btw
      exact Bool.eq_iff_iff.mpr (decide_eq_true_iff.trans c0)
    · unfold fd_btw
      exact Bool.eq_iff_iff.mpr (decide_eq_true_iff.trans c1)
  have z00 : (0 : Int64) = fd_w false false ||| fd_w false false := by decide +kernel
  have eo0 : ¬ (z.toInt ≤ (m0 : Int) ∧ (m0 : Int) ≤ w.toInt) → ¬ (z.toInt ≤ (m1 : Int) ∧ (m1 : Int) ≤ w.toInt) → post 0 := by
    intro c0 c1
    rw [z00]
    exact eo false false ⟨fun y => absurd y c0, fun y => nomatch y⟩ ⟨fun y => absurd y c1, fun y => nomatch y⟩
  have z0 : ∀ d, d < 2 → (0 : Int64) ||| fd_bit d = fd_bit d ||| fd_w false false := by decide +kernel
  have z1 : ∀ d, d < 2 → (0 : Int64) ||| fd_bit d = fd_w false false ||| fd_bit d := by decide +kernel
  have z2 : ∀ d, d < 2 → ∀ e, e < 2 → ((0 : Int64) ||| fd_bit d) ||| fd_bit e = fd_bit d ||| fd_bit e := by decide +kernel
  unfold wpX_stretch
  refine nm_r (e' := nI 48) (by decide) (br_c (fun c => ?_) (fun c => ?_))
  · rw [Int32.le_iff_toInt_le] at c
    refine fd_pl2 5 48 d0 d1 z _ (nI m0) (nI m1) (by decide) (by omega) (by omega) (by omega) (by omega) h40 h41 h30 h31 (fun f1 => ?_) (fun f1 f0 => ?_) (fun f1 f0 => ?_)
    · rw [fd_lo z (by omega) hd1] at f1
      refine fd_pl2 5 48 d0 d1 w _ (nI m0) (nI m1) (by decide) (by omega) (by omega) (by omega) (by omega) h40 h41 h30 h31 (fun g1 => ?_) (fun g1 g0 => ?_) (fun g1 g0 => ?_)
      · rw [fd_hi w (by omega) hd1] at g1
        exact ⟨1, fd_send 2 0 0 (by omega) (eo0 (by omega) (by omega))⟩
      · rw [fd_hi w (by omega) hd1] at g1
        exact absurd g1 (by omega)
      · rw [fd_hi w (by omega) hd1] at g1
        exact absurd g1 (by omega)
    · rw [fd_lo z (by omega) hd1] at f1
      rw [fd_lo z (by omega) hd0] at f0
      refine fd_pl2 5 48 d0 d1 w _ (nI m0) (nI m1) (by decide) (by omega) (by omega) (by omega) (by omega) h40 h41 h30 h31 (fun g1 => ?_) (fun g1 g0 => ?_) (fun g1 g0 => ?_)
      · rw [fd_hi w (by omega) hd1] at g1
        exact ⟨2, fd_sstep 2 1 d1 1 0 _ (by omega) (by omega) hd1 h41 (z1 d1 hd1) (fd_send 2 0 _ (by omega) (eo false true ⟨fun y => absurd y (by omega), fun y => nomatch y⟩ ⟨fun y => rfl, fun y => ⟨by omega, by omega⟩⟩))⟩
      · rw [fd_hi w (by omega) hd1] at g1
        exact ⟨1, fd_send 1 0 0 (by omega) (eo0 (by omega) (by omega))⟩
      · rw [fd_hi w (by omega) hd0] at g0
        exact absurd g0 (by omega)
    · rw [fd_lo z (by omega) hd1] at f1
      rw [fd_lo z (by omega) hd0] at f0
      refine fd_pl2 5 48 d0 d1 w _ (nI m0) (nI m1) (by decide) (by omega) (by omega) (by omega) (by omega) h40 h41 h30 h31 (fun g1 => ?_) (fun g1 g0 => ?_) (fun g1 g0 => ?_)
      · rw [fd_hi w (by omega) hd1] at g1
        exact ⟨3, fd_sstep 2 0 d0 2 0 _ (by omega) (by omega) hd0 h40 rfl (fd_sstep 2 1 d1 1 _ _ (by omega) (by omega) hd1 h41 (z2 d0 hd0 d1 hd1) (fd_send 2 0 _ (by omega) (eo true true ⟨fun y => rfl, fun y => ⟨by omega, by omega⟩⟩ ⟨fun y => rfl, fun y => ⟨by omega, by omega⟩⟩)))⟩
      · rw [fd_hi w (by omega) hd1] at g1
        rw [fd_hi w (by omega) hd0] at g0
        exact ⟨2, fd_sstep 1 0 d0 1 0 _ (by omega) (by omega) hd0 h40 (z0 d0 hd0) (fd_send 1 0 _ (by omega) (eo true false ⟨fun y => rfl, fun y => ⟨by omega, by omega⟩⟩ ⟨fun y => absurd y (by omega), fun y => nomatch y⟩))⟩
      · rw [fd_hi w (by omega) hd1] at g1
        rw [fd_hi w (by omega) hd0] at g0
        exact ⟨1, fd_send 0 0 0 (by omega) (eo0 (by omega) (by omega))⟩
  · rw [Int32.le_iff_toInt_le] at c
    exact eo0 (by omega) (by omega)
theorem fd_str {post : Int64 → Prop} (n0 n1 : Nat) (hn0 : n0 < 256) (hn1 : n1 < 256) (z w : Int32) (h : fd_ord n0 n1 a3 a4) (H : post (fd_w (fd_btw z w n0) (fd_btw z w n1))) :
    wpX_stretch post (th, nI 2, a1, a2, a3, a4, a5, a6, a7, a8) (nI 5) z w := by
  obtain ⟨e0, e1, ⟨hc, p, q⟩ | ⟨hc, p, q⟩⟩ := h
  · refine fd_str2 0 1 n0 n1 (by omega) (by omega) hc hn1 z w p q e0 e1 (fun b0 b1 c0 c1 => ?_)
    rw [c0, c1] at H
    refine ek_v ?_ H
    cases b0 <;> cases b1 <;> decide +kernel
  · refine fd_str2 1 0 n1 n0 (by omega) (by omega) (by omega) hn0 z w p q e1 e0 (fun b0 b1 c0 c1 => ?_)
    rw [c0, c1] at H
    refine ek_v ?_ H
    cases b0 <;> cases b1 <;> decide +kernel
end
end
section
theorem fd_bs (F i : Nat) (x1 : Int32) (A B : Bool) :
    (bif decide (F < i ∧ ¬ x1 = nI F) then fd_w A B else fd_w true true) &&& (bif decide (nI i = x1) then fd_w true true else bif decide (i = F) then fd_w A B else fd_w true true) = bif decide (F < i + 1 ∧ ¬ x1 = nI F) then fd_w A B else fd_w true true := by
  have t : ∀ a b, fd_w a b &&& fd_w true true = fd_w a b := by
    intro a b
    rw [fd_and, Bool.and_true, Bool.and_true]
  by_cases h1 : x1 = nI F
  · rw [decide_eq_false (show ¬ (F < i ∧ ¬ x1 = nI F) from fun z => z.2 h1), decide_eq_false (show ¬ (F < i + 1 ∧ ¬ x1 = nI F) from fun z => z.2 h1)]
    by_cases h2 : i = F
    · rw [decide_eq_true (show nI i = x1 by rw [h1, h2])]
      first | exact t true true | exact t A B
    · rw [decide_eq_false h2]
      cases decide (nI i = x1) <;> first | exact t true true | exact t A B
  · by_cases h2 : i = F
    · rw [decide_eq_false (show ¬ (F < i ∧ ¬ x1 = nI F) by omega), decide_eq_true (show (F < i + 1 ∧ ¬ x1 = nI F) from ⟨by omega, h1⟩), decide_eq_true h2, decide_eq_false (show ¬ nI i = x1 from fun z => h1 (by rw [← z, h2]))]
      show fd_w true true &&& fd_w A B = fd_w A B
      rw [fd_and, Bool.true_and, Bool.true_and]
    · rw [decide_eq_false h2]
      have e : decide (F < i + 1 ∧ ¬ x1 = nI F) = decide (F < i ∧ ¬ x1 = nI F) := decide_eq_decide.mpr ⟨fun z => ⟨by omega, z.2⟩, fun z => ⟨by omega, z.2⟩⟩
      rw [e]
      cases decide (nI i = x1) <;> cases decide (F < i ∧ ¬ x1 = nI F) <;> first | exact t true true | exact t A B
/-- who passes: all but the filter F's -/
def fd_pass (F : Nat) (A B : Bool) (a8 : Nat → Int64) : Prop := ∀ j, j < 6 → a8 j = bif decide (j = F) then fd_w A B else fd_w true true
def fd_at (A B : Bool) (d : Nat) : Bool := bif decide (d = 0) then A else B
/-- the first in the order of field 5 -/
def fd_first (u v : Nat) (A B : Bool) : Int32 := bif decide (u ≤ v) then (bif A then 0 else bif B then 1 else (-6)) else (bif B then 1 else bif A then 0 else (-6))
section
variable {th : Int64} {mn : Int32} {a1 a2 : Nat → Int64} {a3 a4 a5 a6 a7 : Nat → Int32} {a8 : Nat → Int64}
theorem fd_bes {post : Int64 → Prop} (F : Nat) (A B : Bool) (hF : F < 6) (h8 : fd_pass F A B a8) (x1 : Int32) (H : post (bif decide (x1 = nI F) then fd_w true true else fd_w A B)) :
    wpX_beside post (fd_w true true, mn, a1, a2, a3, a4, a5, a6, a7, a8) x1 := by
  unfold wpX_beside
  refine pk_loop (fun n i s => wX_beside_8 post x1 (fd_w true true) mn a1 a2 a3 a4 a5 a6 a7 a8 n s (nI i)) (fun i s => s = bif decide (F < i ∧ ¬ x1 = nI F) then fd_w A B else fd_w true true) 6 0 (fd_w true true) (by omega) (by rw [decide_eq_false (show ¬ (F < 0 ∧ ¬ x1 = nI F) by omega)]; rfl) ?_ ?_
  · intro n s h
    refine pk_le 6 6 (fun _ => ?_) (fun z => absurd z (by omega))
    rw [h]
    by_cases e : x1 = nI F
    · rw [decide_eq_false (show ¬ (F < 6 ∧ ¬ x1 = nI F) from fun z => z.2 e)]
      rw [decide_eq_true e] at H
      exact H
    · rw [decide_eq_true (show (F < 6 ∧ ¬ x1 = nI F) from ⟨hF, e⟩)]
      rw [decide_eq_false e] at H
      exact H
  · intro n i s hi h hw
    have k := fd_bs F i x1 A B
    refine pk_le 6 i (fun z => absurd z (by omega)) (fun _ => br_c (fun c => nm_e (nm_r (nI_1 i) (hw _ ?_))) (fun c => ⟨pk_in i 6 hi, nm_e (nm_r (nI_1 i) (hw _ ?_))⟩))
    · rw [decide_eq_true c] at k
      rw [h]
      exact k
    · rw [decide_eq_false c] at k
      rw [h, nI_clamp (by omega), h8 i hi]
      exact k
theorem fd_match {post : Int32 → Prop} (F : Nat) (A B : Bool) (hF : F < 6) (h8 : fd_pass F A B a8) (H : post (nI (A.toNat + B.toNat))) :
    wpX_matching post (fd_w true true, mn, a1, a2, a3, a4, a5, a6, a7, a8) := by
  unfold wpX_matching
  refine fd_bes F A B hF h8 (-1) ?_
  have e : ¬ (-1 : Int32) = nI F := by
    intro z
    have h := nI_pos (n := F) (by omega)
    rw [← z] at h
    exact h (by decide)
  rw [decide_eq_false e]
  exact fd_ones A B H
theorem fd_inD {post : Int32 → Prop} (A B : Bool) (d : Nat) (hd : d < 2) (T : fd_at A B d = true → post 1) (F : fd_at A B d = false → post 0) : wpX_in post () (fd_w A B) (nI d) := by
  rcases (show d = 0 ∨ d = 1 by omega) with rfl | rfl
  · exact fd_in0 A B T F
  · exact fd_in1 A B T F
theorem fd_dstep {post : Int32 → Prop} (A B : Bool) (k d n : Nat) (hk : k < 2) (hd : d < 2) (h4 : a4 (48 + k) = nI d) (T : fd_at A B d = true → post (nI d))
    (F : fd_at A B d = false → wX_documentAt_20 post (nI 0) (fd_w A B) (nI 48) th (nI 2) a1 a2 a3 a4 a5 a6 a7 a8 n (nI 0) (nI (k + 1))) :
    wX_documentAt_20 post (nI 0) (fd_w A B) (nI 48) th (nI 2) a1 a2 a3 a4 a5 a6 a7 a8 (n + 1) (nI 0) (nI k) := by
  have e : a4 (nI 48 + nI k).toNatClampNeg = nI d := by
    rw [nI_add, nI_clamp (by omega), h4]
  have hin : vp_in (nI 48 + nI k) 96 := pk_in (48 + k) 96 (by omega) (nI_add 48 k)
  rw [wX_documentAt_20]
  refine pk_le 2 k (fun z => absurd z (by omega)) (fun _ => ⟨hin, ?_⟩)
  rw [e]
  refine fd_inD A B d hd ?_ ?_
  · intro z
    exact br_f (by decide) (br_t rfl ⟨hin, T z⟩)
  · intro z
    exact br_t rfl (nm_r (nI_1 k) (F z))
theorem fd_dend {post : Int32 → Prop} (A B : Bool) (n : Nat) (H : post (-1)) : wX_documentAt_20 post (nI 0) (fd_w A B) (nI 48) th (nI 2) a1 a2 a3 a4 a5 a6 a7 a8 (n + 1) (nI 0) (nI 2) :=
  pk_le 2 2 (fun _ => H) (fun z => absurd z (by omega))
theorem fd_sorted {post : Int32 → Prop} (u v : Nat) (h : fd_ord u v a3 a4) (F : Nat) (A B : Bool) (hF : F < 6) (h8 : fd_pass F A B a8) (H : post (fd_first u v A B)) :
    wpX_sorted post (fd_w true true, nI 2, a1, a2, a3, a4, a5, a6, a7, a8) (nI 5) (nI 0) (nI 0) := by
  have e : ¬ (-1 : Int32) = nI F := by
    intro z
    have h := nI_pos (n := F) (by omega)
    rw [← z] at h
    exact h (by decide)
  unfold wpX_sorted
  refine fd_num5 (br_f (by decide) (br_f (by decide) (br_t (by decide) (br_t rfl ?_))))
  unfold wpX_documentAt
  refine fd_bes F A B hF h8 (-1) ?_
  rw [decide_eq_false e]
  refine nm_r (e' := nI 48) (by decide) ⟨3, ?_⟩
  obtain ⟨e0, e1, ⟨hc, p, q⟩ | ⟨hc, p, q⟩⟩ := h
  · unfold fd_first at H
    rw [decide_eq_true hc] at H
    refine fd_dstep A B 0 0 2 (by omega) (by omega) p (fun c => ?_) (fun c => fd_dstep A B 1 1 1 (by omega) (by omega) q (fun c2 => ?_) (fun c2 => fd_dend A B 0 ?_))
    · have c' : A = true := c
      subst c'
      exact br_t (by decide) H
    · have c' : A = false := c
      have c2' : B = true := c2
      subst c' c2'
      exact br_t (by decide) H
    · have c' : A = false := c
      have c2' : B = false := c2
      subst c' c2'
      exact br_f (by decide) H
  · unfold fd_first at H
    rw [decide_eq_false (show ¬ u ≤ v by omega)] at H
    refine fd_dstep A B 0 1 2 (by omega) (by omega) p (fun c => ?_) (fun c => fd_dstep A B 1 0 1 (by omega) (by omega) q (fun c2 => ?_) (fun c2 => fd_dend A B 0 ?_))
    · have c' : B = true := c
      subst c'
      exact br_t (by decide) H
    · have c' : B = false := c
      have c2' : A = true := c2
      subst c' c2'
      exact br_t (by decide) H
    · have c' : B = false := c
      have c2' : A = false := c2
      subst c' c2'
      exact br_f (by decide) H
theorem fd_facet {post : Int32 → Prop} (f t : Nat) (hf : f < 3) (ht : t < 10) (F : Nat) (A B w1 w2 : Bool) (hF : F < 6) (h8 : fd_pass F A B a8) (h1 : a1 (10 * f + t) = fd_w w1 w2)
    (H : post (nI (((decide (f = F) || A) && w1).toNat + ((decide (f = F) || B) && w2).toNat))) :
    wpX_facet post (fd_w true true, mn, a1, a2, a3, a4, a5, a6, a7, a8) (nI f) (nI t) := by
  unfold wpX_facet
  refine fd_isGroup f (by omega) (br_f (by decide) (fd_termOf f t hf ht (br_f (by decide) ?_)))
  refine fd_bes F A B hF h8 (nI f) ?_
  unfold wpX_holders
  refine pk_eq f 3 (fun z => absurd z (by omega)) (fun _ => ⟨pk_in (10 * f + t) 30 (by omega) (fd_ix10 f t), nm_r (e' := fd_w ((decide (f = F) || A) && w1) ((decide (f = F) || B) && w2)) ?_ (fd_ones _ _ H)⟩)
  rw [fd_ix10, nI_clamp (by omega), h1]
  by_cases e : f = F
  · rw [decide_eq_true (show nI f = nI F by rw [e]), decide_eq_true e]
    exact fd_and true true w1 w2
  · rw [decide_eq_false (show ¬ nI f = nI F from fun z => e ((nI_eq (by omega) (by omega)).mp z)), decide_eq_false e, Bool.false_or, Bool.false_or]
    exact fd_and A B w1 w2
/-- a filter is set -/
theorem fd_setF {post : Int32 → St2 → Prop} (F : Nat) (hF : F < 6) (A B : Bool) (p1 p2 : Int32) (h8 : ∀ j, j < 6 → a8 j = fd_w true true)
    (R : ∀ ψ : St2 → Prop, ψ (fd_w true true, nI 2, a1, a2, a3, a4, upd a5 F 1, upd a6 F p1, upd a7 F p2, vp_updL a8 F (fd_w A B)) → wpX_refresh ψ (fd_w true true, nI 2, a1, a2, a3, a4, upd a5 F 1, upd a6 F p1, upd a7 F p2, a8) (nI F))
    (H : ∀ b5 b6 b7 b8, fd_pass F A B b8 → post (nI (A.toNat + B.toNat)) (fd_w true true, nI 2, a1, a2, a3, a4, b5, b6, b7, b8)) :
    wpX_setFilter post (fd_w true true, nI 2, a1, a2, a3, a4, a5, a6, a7, a8) (nI F) p1 p2 := by
  have hp : fd_pass F A B (vp_updL a8 F (fd_w A B)) := by
    intro j hj
    by_cases e : j = F
    · rw [e, pk_uLs, decide_eq_true rfl]
      rfl
    · rw [pk_uLn e, decide_eq_false e, h8 j hj]
      rfl
  unfold wpX_setFilter
  refine ⟨pk_in F 6 hF, nm_r (e' := upd a5 F 1) (by rw [nI_clamp (by omega)]) ⟨pk_in F 6 hF, nm_r (e' := upd a6 F p1) (by rw [nI_clamp (by omega)]) ⟨pk_in F 6 hF, nm_r (e' := upd a7 F p2) (by rw [nI_clamp (by omega)]) ?_⟩⟩⟩
  refine R _ ?_
  exact fd_match F A B hF hp (H _ _ _ _ hp)
theorem fd_rf0 {ψ : St2 → Prop} (u v : Nat) (hu : u < 8) (hv : v < 8) (z : Int32) (h1 : ∀ t, t < 10 → a1 t = fd_w (decide (u = t)) (decide (v = t)))
    (H : ψ (th, mn, a1, a2, a3, a4, upd a5 0 1, upd a6 0 z, a7, vp_updL a8 0 (fd_w (fd_b z u) (fd_b z v)))) : wpX_refresh ψ (th, mn, a1, a2, a3, a4, upd a5 0 1, upd a6 0 z, a7, a8) (nI 0) := by
  unfold wpX_refresh
  refine ⟨pk_in 0 6 (by omega), br_f ?_ (fd_tf 0 (by omega) (br_f (by decide) ⟨pk_in 0 6 (by omega), ?_⟩))⟩
  · rw [nI_clamp (by omega), pk_us]
    decide
  · rw [nI_clamp (by omega), pk_us]
    exact fd_wT u v hu hv z h1 ⟨pk_in 0 6 (by omega), nm_e H⟩
theorem fd_rf3 {ψ : St2 → Prop} (z w p q : Int32) (h2 : ∀ g, g < 8 → a2 g = fd_w (fd_b p g) (fd_b q g)) (A B : Bool)
    (H0 : w = 0 → A = fd_any z p 8 ∧ B = fd_any z q 8) (H1 : ¬ w = 0 → w = 1 → A = fd_all z p 8 ∧ B = fd_all z q 8) (H2 : ¬ w = 0 → ¬ w = 1 → A = (!fd_any z p 8) ∧ B = (!fd_any z q 8))
    (H : ψ (fd_w true true, mn, a1, a2, a3, a4, upd a5 3 1, upd a6 3 z, upd a7 3 w, vp_updL a8 3 (fd_w A B))) : wpX_refresh ψ (fd_w true true, mn, a1, a2, a3, a4, upd a5 3 1, upd a6 3 z, upd a7 3 w, a8) (nI 3) := by
  unfold wpX_refresh
  refine ⟨pk_in 3 6 (by omega), br_f ?_ (fd_tg 3 (by omega) (by omega) (br_t rfl (br_t rfl ⟨pk_in 3 6 (by omega), pk_in 3 6 (by omega), ?_⟩)))⟩
  · rw [nI_clamp (by omega), pk_us]
    decide
  · rw [nI_clamp (by omega), pk_us, pk_us]
    refine fd_wG z w p q h2 (fun c => ?_) (fun c c2 => ?_) (fun c c2 => ?_)
    · obtain ⟨rfl, rfl⟩ := H0 c
      exact ⟨pk_in 3 6 (by omega), nm_e H⟩
    · obtain ⟨rfl, rfl⟩ := H1 c c2
      exact ⟨pk_in 3 6 (by omega), nm_e H⟩
    · obtain ⟨rfl, rfl⟩ := H2 c c2
      exact ⟨pk_in 3 6 (by omega), nm_e H⟩
theorem fd_rf5 {ψ : St2 → Prop} (u v : Nat) (hu : u < 256) (hv : v < 256) (z w : Int32) (h : fd_ord u v a3 a4)
    (H : ψ (th, nI 2, a1, a2, a3, a4, upd a5 5 1, upd a6 5 z, upd a7 5 w, vp_updL a8 5 (fd_w (fd_btw z w u) (fd_btw z w v)))) : wpX_refresh ψ (th, nI 2, a1, a2, a3, a4, upd a5 5 1, upd a6 5 z, upd a7 5 w, a8) (nI 5) := by
  unfold wpX_refresh
  refine ⟨pk_in 5 6 (by omega), br_f ?_ (fd_tg 5 (by omega) (by omega) (br_t rfl (br_f (by decide) ⟨pk_in 5 6 (by omega), pk_in 5 6 (by omega), ?_⟩)))⟩
  · rw [nI_clamp (by omega), pk_us]
    decide
  · rw [nI_clamp (by omega), pk_us, pk_us]
    exact fd_str u v hu hv z w h ⟨pk_in 5 6 (by omega), nm_e H⟩
end
end
section
/-- a law's answer by its mode -/
def fd_mode (w a z : Int32) : Bool := bif decide (w = 0) then !decide (a = 0) else bif decide (w = 1) then decide (a = z) else decide (a = 0)
theorem fd_modeE (P : Int32 → Prop) (w a z : Int32) (H : P (nI (fd_mode w a z).toNat)) :
    (w = 0 → (a = 0 → P 0) ∧ (¬ a = 0 → P 1)) ∧ (¬ w = 0 → (w = 1 → (a = z → P 1) ∧ (¬ a = z → P 0)) ∧ (¬ w = 1 → (a = 0 → P 1) ∧ (¬ a = 0 → P 0))) := by
  unfold fd_mode at H
  refine br_c (fun c => ?_) (fun c => ?_)
  · rw [decide_eq_true c] at H
    refine br_c (fun k => ?_) (fun k => ?_)
    · rw [decide_eq_true k] at H
      exact H
    · rw [decide_eq_false k] at H
      exact H
  · rw [decide_eq_false c] at H
    refine br_c (fun c2 => ?_) (fun c2 => ?_)
    · rw [decide_eq_true c2] at H
      refine br_c (fun k => ?_) (fun k => ?_)
      · rw [decide_eq_true k] at H
        exact H
      · rw [decide_eq_false k] at H
        exact H
    · rw [decide_eq_false c2] at H
      refine br_c (fun k => ?_) (fun k => ?_)
      · rw [decide_eq_true k] at H
        exact H
      · rw [decide_eq_false k] at H
        exact H
theorem fd_rngE (P : Int32 → Prop) (z w : Int32) (u : Nat) (hu : u < 2 ^ 31) (H : P (nI (fd_btw z w u).toNat)) :
    (nI u < z → P 0) ∧ (¬ nI u < z → (w < nI u → P 0) ∧ (¬ w < nI u → P 1)) := by
  unfold fd_btw at H
  rw [fd_ltz z hu, fd_gtz w hu]
  refine br_c (fun c => ?_) (fun c => br_c (fun c2 => ?_) (fun c2 => ?_))
  · rw [decide_eq_false (by omega)] at H
    exact H
  · rw [decide_eq_false (by omega)] at H
    exact H
  · rw [decide_eq_true (by omega)] at H
    exact H
section
variable {post : Int32 → St0 → Prop} {mc ms kc ks : Nat} {a1 a2 : Nat → Int64} {a3 a4 a5 a6 a7 : Nat → Int32} {a8 : Nat → Int64} {u v : Nat} {x6 x9 x10 x11 x12 x13 : Int32}
theorem fd_541 (hp : post 1 ()) (hu : u < 8) (hv : v < 8) (h1 : ∀ t, t < 10 → a1 t = fd_w (decide (u = t)) (decide (v = t))) (h11 : a1 11 = fd_w true true) (ho : fd_ord u v a3 a4)
    (F : Nat) (A B : Bool) (hF6 : F < 6) (hF1 : ¬ 1 = F) (h8 : fd_pass F A B a8) (hF : (x6 = 0 ∧ F = 0) ∨ (¬ x6 = 0 ∧ ¬ F = 0))
    (hg : (x11 = 0 ∧ A = true ∧ B = true) ∨ (x11 = 1 ∧ x9 = nI A.toNat ∧ x10 = nI B.toNat)) {x14 x15 : Int32} (h14 : nI (A.toNat + B.toNat) = x14) (h15 : fd_first u v A B = x15) :
    wL_lawOf_541 post mc ms x6 (nI u) (nI v) x9 x10 x11 x14 x15 kc ks (fd_w true true) (nI 2) a1 a2 a3 a4 a5 a6 a7 a8 := by
  unfold wL_lawOf_541
  refine fd_sorted u v ho F A B hF6 h8 (br_t h15 (fd_facet 1 1 (by omega) (by omega) F A B true true hF6 h8 h11 (br_t ?_ (fd_facet 0 u (by omega) (by omega) F A B true (decide (v = u)) hF6 h8 ?_ ?_))))
  · rw [decide_eq_false hF1, Bool.false_or, Bool.false_or, Bool.and_true, Bool.and_true]
    exact h14
  · have h := h1 u (by omega)
    rw [decide_eq_true rfl] at h
    rw [show 10 * 0 + u = u by omega]
    exact h
  · rcases hF with ⟨e6, eF⟩ | ⟨e6, eF⟩
    · rw [decide_eq_true eF.symm]
      refine br_t e6 (pk_eq u v (fun e => br_t ?_ hp) (fun e => br_t ?_ hp))
      · rw [decide_eq_true e.symm]
        rfl
      · rw [decide_eq_false (fun z => e z.symm)]
        rfl
    · rw [decide_eq_false (fun z => eF z.symm)]
      refine br_f e6 ?_
      rcases hg with ⟨e11, rfl, rfl⟩ | ⟨e11, e9, e10⟩
      · refine br_t e11 (pk_eq u v (fun e => br_t ?_ hp) (fun e => br_t ?_ hp))
        · rw [decide_eq_true e.symm]
          rfl
        · rw [decide_eq_false (fun z => e z.symm)]
          rfl
      · subst e11 e9 e10
        refine br_f (by decide) ?_
        cases A <;> cases B
        · exact br_t rfl (br_t rfl (br_t rfl hp))
        · refine br_t rfl (br_f (by decide) (pk_eq u v (fun e => br_t ?_ hp) (fun e => br_t ?_ hp)))
          · rw [decide_eq_true e.symm]
            rfl
          · rw [decide_eq_false (fun z => e z.symm)]
            rfl
        · exact br_f (by decide) (br_t rfl (br_t rfl hp))
        · refine br_f (by decide) (br_f (by decide) (pk_eq u v (fun e => br_t ?_ hp) (fun e => br_t ?_ hp)))
          · rw [decide_eq_true e.symm]
            rfl
          · rw [decide_eq_false (fun z => e z.symm)]
            rfl
theorem fd_first0 (h : u ≤ v) (B : Bool) : fd_first u v true B = 0 := by
  unfold fd_first
  rw [decide_eq_true h]
  rfl
theorem fd_first1 (h : v < u) (A : Bool) : fd_first u v A true = 1 := by
  unfold fd_first
  rw [decide_eq_false (by omega)]
  rfl
theorem fd_firstB : fd_first u v false true = 1 := by
  unfold fd_first
  cases decide (u ≤ v) <;> rfl
theorem fd_firstA : fd_first u v true false = 0 := by
  unfold fd_first
  cases decide (u ≤ v) <;> rfl
theorem fd_firstN : fd_first u v false false = (-6) := by
  unfold fd_first
  cases decide (u ≤ v) <;> rfl
theorem fd_bad (hp : post 1 ()) (hu : u < 8) (hv : v < 8) (h1 : ∀ t, t < 10 → a1 t = fd_w (decide (u = t)) (decide (v = t))) (h11 : a1 11 = fd_w true true) (ho : fd_ord u v a3 a4)
    (h8 : ∀ j, j < 6 → a8 j = fd_w true true) :
    wL_lawOf_423 post mc ms x6 (nI u) (nI v) x9 x10 0 x12 x12 kc ks (fd_w true true) (nI 2) a1 a2 a3 a4 a5 a6 a7 a8 := by
  have K : ∀ F, fd_pass F true true a8 := by
    intro F j hj
    rw [h8 j hj]
    cases decide (j = F) <;> rfl
  have G : ∀ x15, fd_first u v true true = x15 → wL_lawOf_541 post mc ms x6 (nI u) (nI v) x9 x10 0 2 x15 kc ks (fd_w true true) (nI 2) a1 a2 a3 a4 a5 a6 a7 a8 := by
    intro x15 h15
    by_cases e : x6 = 0
    · exact fd_541 hp hu hv h1 h11 ho 0 true true (by omega) (by omega) (K 0) (Or.inl ⟨e, rfl⟩) (Or.inl ⟨rfl, rfl, rfl⟩) rfl h15
    · exact fd_541 hp hu hv h1 h11 ho 3 true true (by omega) (by omega) (K 3) (Or.inr ⟨e, by omega⟩) (Or.inl ⟨rfl, rfl, rfl⟩) rfl h15
  exact br_t rfl (br_t rfl (br_t rfl (br_t rfl (br_t rfl (br_t rfl (pk_le u v (fun e => G 0 (fd_first0 e true)) (fun e => G 1 (fd_first1 e true))))))))
theorem fd_good (hp : post 1 ()) (hu : u < 8) (hv : v < 8) (h1 : ∀ t, t < 10 → a1 t = fd_w (decide (u = t)) (decide (v = t))) (h11 : a1 11 = fd_w true true) (ho : fd_ord u v a3 a4)
    (F : Nat) (A B : Bool) (hF6 : F < 6) (hF1 : ¬ 1 = F) (h8 : fd_pass F A B a8) (hF : (x6 = 0 ∧ F = 0) ∨ (¬ x6 = 0 ∧ ¬ F = 0)) :
    wL_lawOf_423 post mc ms x6 (nI u) (nI v) (nI A.toNat) (nI B.toNat) 1 x12 (nI (A.toNat + B.toNat)) kc ks (fd_w true true) (nI 2) a1 a2 a3 a4 a5 a6 a7 a8 := by
  have G : ∀ x14 x15, nI (A.toNat + B.toNat) = x14 → fd_first u v A B = x15 → wL_lawOf_541 post mc ms x6 (nI u) (nI v) (nI A.toNat) (nI B.toNat) 1 x14 x15 kc ks (fd_w true true) (nI 2) a1 a2 a3 a4 a5 a6 a7 a8 := by
    intro x14 x15 h14 h15
    exact fd_541 hp hu hv h1 h11 ho F A B hF6 hF1 h8 hF (Or.inr ⟨rfl, rfl, rfl⟩) h14 h15
  cases A <;> cases B
  · exact br_f (by decide) (br_t rfl (br_t rfl (br_f (by decide) (br_t rfl (br_f (by decide) (br_t rfl (br_t rfl (br_f (by decide) (br_t rfl (br_f (by decide) (G _ _ rfl fd_firstN)))))))))))
  · exact br_f (by decide) (br_t rfl (br_f (by decide) (br_f (by decide) (br_t rfl (br_f (by decide) (br_t rfl (br_f (by decide) (br_f (by decide) (br_t rfl (br_f (by decide) (G _ _ rfl fd_firstB)))))))))))
  · exact br_f (by decide) (br_f (by decide) (br_t rfl (br_f (by decide) (br_t rfl (br_f (by decide) (br_f (by decide) (br_f (by decide) (br_f (by decide) (br_t rfl (br_f (by decide) (G _ _ rfl fd_firstA)))))))))))
  · exact br_f (by decide) (br_f (by decide) (br_f (by decide) (br_f (by decide) (br_t rfl (br_f (by decide) (br_f (by decide) (br_f (by decide) (br_f (by decide) (br_f (by decide) (pk_le u v (fun e => br_f (by decide) (G _ _ rfl (fd_first0 e true))) (fun e => br_f (by decide) (G _ _ rfl (fd_first1 e true)))))))))))))
end
end
section
theorem fd_nlt {a b : Int32} (h : ¬ a < b) : b ≤ a := by
  rw [Int32.lt_iff_toInt_lt] at h
  rw [Int32.le_iff_toInt_le]
  omega
theorem fd_nle {a b : Int32} (h : a < b) : ¬ b ≤ a := by
  rw [Int32.lt_iff_toInt_lt] at h
  rw [Int32.le_iff_toInt_le]
  omega
theorem fd_z8 {z : Int32} (c : ¬ z < 1) (c2 : ¬ 255 < z) : ∃ m, m < 256 ∧ z = nI m := by
  have t0 : (0 : Int32).toInt = 0 := by decide
  have t1 : (1 : Int32).toInt = 1 := by decide
  have t2 : (255 : Int32).toInt = 255 := by decide
  rw [Int32.lt_iff_toInt_lt, t1] at c
  rw [Int32.lt_iff_toInt_lt, t2] at c2
  rcases pk_ix z (n := 256) (by omega) with h | h | h
  · rw [Int32.lt_iff_toInt_lt, t0] at h
    omega
  · rw [Int32.le_iff_toInt_le, nI_toInt (by omega)] at h
    omega
  · exact h
section
variable {post : Int32 → St0 → Prop} {mc ms kc ks : Nat} {a1 a2 : Nat → Int64} {a3 a4 a5 a6 a7 : Nat → Int32} {a8 : Nat → Int64} {u v : Nat} {x6 x9 x10 x11 x12 : Int32}
/-- terms -/
theorem fd_132 (z g : Int32) (H : wL_lawOf_170 post mc ms z x6 (nI u) (nI v) (nI (fd_b z u).toNat) g (-3) (nI (fd_b z v).toNat) kc ks (fd_w true true) (nI 2) a1 a2 a3 a4 a5 a6 a7 a8) :
    wL_lawOf_132 post mc ms z x6 (nI u) (nI v) g kc ks (fd_w true true) (nI 2) a1 a2 a3 a4 a5 a6 a7 a8 := by
  cases hA : fd_b z u <;> cases hB : fd_b z v <;> rw [hA, hB] at H
  · exact br_f (fun c => absurd (fd_bI.mp c) (by rw [hA]; decide)) (br_f (fun c => absurd (fd_bI.mp c) (by rw [hB]; decide)) H)
  · exact br_f (fun c => absurd (fd_bI.mp c) (by rw [hA]; decide)) (br_t (fd_bI.mpr hB) H)
  · exact br_t (fd_bI.mpr hA) (br_f (fun c => absurd (fd_bI.mp c) (by rw [hB]; decide)) H)
  · exact br_t (fd_bI.mpr hA) (br_t (fd_bI.mpr hB) H)
theorem fd_k0 (hp : post 1 ()) (hu : u < 8) (hv : v < 8) (h1 : ∀ t, t < 10 → a1 t = fd_w (decide (u = t)) (decide (v = t))) (h11 : a1 11 = fd_w true true) (ho : fd_ord u v a3 a4)
    (h8 : ∀ j, j < 6 → a8 j = fd_w true true) (z : Int32) (e6 : x6 = 0) :
    (z < 1 → wL_lawOf_131 post mc ms z x6 (nI u) (nI v) kc ks (fd_w true true) (nI 2) a1 a2 a3 a4 a5 a6 a7 a8) ∧ (¬ z < 1 → (1023 < z → wL_lawOf_131 post mc ms z x6 (nI u) (nI v) kc ks (fd_w true true) (nI 2) a1 a2 a3 a4 a5 a6 a7 a8) ∧ (¬ 1023 < z → wL_lawOf_132 post mc ms z x6 (nI u) (nI v) 1 kc ks (fd_w true true) (nI 2) a1 a2 a3 a4 a5 a6 a7 a8)) := by
  refine br_c (fun c => ?_) (fun c => br_c (fun c2 => ?_) (fun c2 => ?_))
  · refine fd_132 z 0 ?_
    unfold wL_lawOf_170 wpX_filterTerms
    refine fd_tf 0 (by omega) (br_f (by decide) (br_t c ?_))
    exact fd_bad hp hu hv h1 h11 ho h8
  · refine fd_132 z 0 ?_
    unfold wL_lawOf_170 wpX_filterTerms
    refine fd_tf 0 (by omega) (br_f (by decide) (br_f c (br_f (fd_nle c2) ?_)))
    exact fd_bad hp hu hv h1 h11 ho h8
  · refine fd_132 z 1 ?_
    unfold wL_lawOf_170 wpX_filterTerms
    refine fd_tf 0 (by omega) (br_f (by decide) (br_f c (br_t (fd_nlt c2) ?_)))
    refine fd_setF 0 (by omega) (fd_b z u) (fd_b z v) z 0 h8 (fun ψ hψ => fd_rf0 u v hu hv z h1 hψ) (fun b5 b6 b7 b8 hb => ?_)
    exact fd_good hp hu hv h1 h11 ho 0 (fd_b z u) (fd_b z v) (by omega) (by omega) hb (Or.inl ⟨e6, rfl⟩)
/-- tags -/
theorem fd_257 (z w a b g bad : Int32) (H : wL_lawOf_357 post mc ms z w x6 (nI u) (nI v) (nI (fd_mode w a z).toNat) g bad (nI (fd_mode w b z).toNat) kc ks (fd_w true true) (nI 2) a1 a2 a3 a4 a5 a6 a7 a8) :
    wL_lawOf_257 post mc ms z w x6 (nI u) (nI v) g a b bad kc ks (fd_w true true) (nI 2) a1 a2 a3 a4 a5 a6 a7 a8 :=
  fd_modeE (fun y => wL_lawOf_307 post mc ms z w x6 (nI u) (nI v) g bad b y kc ks (fd_w true true) (nI 2) a1 a2 a3 a4 a5 a6 a7 a8) w a z
    (fd_modeE (fun y => wL_lawOf_357 post mc ms z w x6 (nI u) (nI v) (nI (fd_mode w a z).toNat) g bad y kc ks (fd_w true true) (nI 2) a1 a2 a3 a4 a5 a6 a7 a8) w b z H)
theorem fd_mAny (m : Nat) (hm : m < 256) (p : Int32) {w : Int32} (c : w = 0) : fd_mode w (p &&& nI m) (nI m) = fd_any (nI m) p 8 := by
  unfold fd_mode
  rw [decide_eq_true c]
  refine Bool.eq_iff_iff.mpr ?_
  rw [fd_anyL hm p]
  show (!decide (p &&& nI m = 0)) = true ↔ _
  rw [Bool.not_eq_true', decide_eq_false_iff_not]
theorem fd_mAll (m : Nat) (hm : m < 256) (p : Int32) {w : Int32} (c : ¬ w = 0) (c2 : w = 1) : fd_mode w (p &&& nI m) (nI m) = fd_all (nI m) p 8 := by
  unfold fd_mode
  rw [decide_eq_false c, decide_eq_true c2]
  refine Bool.eq_iff_iff.mpr ?_
  rw [fd_allL hm p]
  exact decide_eq_true_iff
theorem fd_mNone (m : Nat) (hm : m < 256) (p : Int32) {w : Int32} (c : ¬ w = 0) (c2 : ¬ w = 1) : fd_mode w (p &&& nI m) (nI m) = (!fd_any (nI m) p 8) := by
  unfold fd_mode
  rw [decide_eq_false c, decide_eq_false c2, ← fd_mAny m hm p (w := 0) rfl]
  unfold fd_mode
  show decide (p &&& nI m = 0) = !(!decide (p &&& nI m = 0))
  rw [Bool.not_not]
theorem fd_k1 (hp : post 1 ()) (hu : u < 8) (hv : v < 8) (h1 : ∀ t, t < 10 → a1 t = fd_w (decide (u = t)) (decide (v = t))) (h11 : a1 11 = fd_w true true) (ho : fd_ord u v a3 a4)
    (h8 : ∀ j, j < 6 → a8 j = fd_w true true) (p q : Int32) (h2 : ∀ g, g < 8 → a2 g = fd_w (fd_b p g) (fd_b q g)) (z w : Int32) (e6 : ¬ x6 = 0) :
    (z < 1 → wL_lawOf_235 post mc ms z w x6 (nI u) (nI v) (p &&& z) (q &&& z) kc ks (fd_w true true) (nI 2) a1 a2 a3 a4 a5 a6 a7 a8) ∧ (¬ z < 1 →
      (255 < z → wL_lawOf_235 post mc ms z w x6 (nI u) (nI v) (p &&& z) (q &&& z) kc ks (fd_w true true) (nI 2) a1 a2 a3 a4 a5 a6 a7 a8) ∧ (¬ 255 < z →
      (w < 0 → wL_lawOf_235 post mc ms z w x6 (nI u) (nI v) (p &&& z) (q &&& z) kc ks (fd_w true true) (nI 2) a1 a2 a3 a4 a5 a6 a7 a8) ∧ (¬ w < 0 →
      (2 < w → wL_lawOf_235 post mc ms z w x6 (nI u) (nI v) (p &&& z) (q &&& z) kc ks (fd_w true true) (nI 2) a1 a2 a3 a4 a5 a6 a7 a8) ∧ (¬ 2 < w →
      wL_lawOf_236 post mc ms z w x6 (nI u) (nI v) (p &&& z) (q &&& z) 1 kc ks (fd_w true true) (nI 2) a1 a2 a3 a4 a5 a6 a7 a8)))) := by
  refine br_c (fun c => ?_) (fun c => br_c (fun c2 => ?_) (fun c2 => br_c (fun c3 => ?_) (fun c3 => br_c (fun c4 => ?_) (fun c4 => ?_))))
  · refine br_t c (fd_257 z w _ _ 0 (-3) ?_)
    unfold wL_lawOf_357 wpX_filterTags
    refine br_t c ?_
    exact fd_bad hp hu hv h1 h11 ho h8
  · refine br_f c (br_t c2 (fd_257 z w _ _ 0 (-3) ?_))
    unfold wL_lawOf_357 wpX_filterTags
    refine br_f c (br_f (fd_nle c2) ?_)
    exact fd_bad hp hu hv h1 h11 ho h8
  · refine br_f c (br_f c2 (fd_257 z w _ _ 0 (-5) ?_))
    unfold wL_lawOf_357 wpX_filterTags
    refine br_f c (br_t (fd_nlt c2) (br_t c3 ?_))
    exact fd_bad hp hu hv h1 h11 ho h8
  · refine br_f c (br_f c2 (fd_257 z w _ _ 0 (-5) ?_))
    unfold wL_lawOf_357 wpX_filterTags
    refine br_f c (br_t (fd_nlt c2) (br_f c3 (br_f (fd_nle c4) ?_)))
    exact fd_bad hp hu hv h1 h11 ho h8
  · refine br_f c (br_f c2 (fd_257 z w _ _ 1 (-5) ?_))
    unfold wL_lawOf_357 wpX_filterTags
    refine br_f c (br_t (fd_nlt c2) (br_f c3 (br_t (fd_nlt c4) ?_)))
    have hz := fd_z8 c c2
    obtain ⟨m, hm, rfl⟩ := hz
    refine fd_setF 3 (by omega) (fd_mode w (p &&& nI m) (nI m)) (fd_mode w (q &&& nI m) (nI m)) (nI m) w h8 (fun ψ hψ => fd_rf3 (nI m) w p q h2 _ _ (fun d => ⟨fd_mAny m hm p d, fd_mAny m hm q d⟩) (fun d d2 => ⟨fd_mAll m hm p d d2, fd_mAll m hm q d d2⟩) (fun d d2 => ⟨fd_mNone m hm p d d2, fd_mNone m hm q d d2⟩) hψ) (fun b5 b6 b7 b8 hb => ?_)
    exact fd_good hp hu hv h1 h11 ho 3 _ _ (by omega) (by omega) hb (Or.inr ⟨e6, by omega⟩)
/-- ranges -/
theorem fd_k2 (hp : post 1 ()) (hu : u < 8) (hv : v < 8) (h1 : ∀ t, t < 10 → a1 t = fd_w (decide (u = t)) (decide (v = t))) (h11 : a1 11 = fd_w true true) (ho : fd_ord u v a3 a4)
    (h8 : ∀ j, j < 6 → a8 j = fd_w true true) (z w : Int32) (e6 : ¬ x6 = 0) :
    (nI u < z → wL_lawOf_389 post mc ms z w x6 (nI u) (nI v) 1 0 kc ks (fd_w true true) (nI 2) a1 a2 a3 a4 a5 a6 a7 a8) ∧ (¬ nI u < z →
      (w < nI u → wL_lawOf_389 post mc ms z w x6 (nI u) (nI v) 1 0 kc ks (fd_w true true) (nI 2) a1 a2 a3 a4 a5 a6 a7 a8) ∧ (¬ w < nI u →
      wL_lawOf_390 post mc ms z w x6 (nI u) (nI v) 1 0 1 kc ks (fd_w true true) (nI 2) a1 a2 a3 a4 a5 a6 a7 a8)) := by
  refine fd_rngE (fun y => wL_lawOf_390 post mc ms z w x6 (nI u) (nI v) 1 0 y kc ks (fd_w true true) (nI 2) a1 a2 a3 a4 a5 a6 a7 a8) z w u (by omega) ?_
  refine fd_rngE (fun y => wL_lawOf_410 post mc ms z w x6 (nI u) (nI v) (nI (fd_btw z w u).toNat) 1 0 y kc ks (fd_w true true) (nI 2) a1 a2 a3 a4 a5 a6 a7 a8) z w v (by omega) ?_
  unfold wL_lawOf_410 wpX_filterRange
  refine fd_num5 (br_f (by decide) ?_)
  refine fd_setF 5 (by omega) (fd_btw z w u) (fd_btw z w v) z w h8 (fun ψ hψ => fd_rf5 u v (by omega) (by omega) z w ho hψ) (fun b5 b6 b7 b8 hb => ?_)
  exact fd_good hp hu hv h1 h11 ho 5 _ _ (by omega) (by omega) hb (Or.inr ⟨e6, by omega⟩)
end
end
section
theorem fd_pe {f : Nat → Int64} {k j : Nat} {x : Int64} (h : j = k) : fd_put f k x j = f k ||| x := by
  rw [h, fd_ps]
theorem fd_a1a (u t : Nat) (ht : t < 10) : fd_put (fd_put (fd_put (fun _ => (0 : Int64)) (10 * 0 + u) (fd_bit 0)) (10 * 1 + 1) (fd_bit 0)) (10 * 2 + 2) (fd_bit 0) t = fd_w (decide (u = t)) false := by
  rw [fd_pn (by omega), fd_pn (by omega)]
  by_cases e : u = t
  · rw [decide_eq_true e, fd_pe (by omega)]
    show (0 : Int64) ||| fd_bit 0 = fd_w true false
    decide +kernel
  · rw [decide_eq_false e, fd_pn (by omega)]
    rfl
theorem fd_a1b (f : Nat → Int64) (u v t : Nat) (ht : t < 10) (h : f t = fd_w (decide (u = t)) false) : fd_put (fd_put (fd_put f (10 * 0 + v) (fd_bit 1)) (10 * 1 + 1) (fd_bit 1)) (10 * 2 + 3) (fd_bit 1) t = fd_w (decide (u = t)) (decide (v = t)) := by
  rw [fd_pn (by omega), fd_pn (by omega)]
  by_cases e : v = t
  · rw [decide_eq_true e, fd_pe (by omega), show 10 * 0 + v = t by omega, h]
    refine (fd_or _ _ false true).trans ?_
    rw [Bool.or_false, Bool.false_or]
  · rw [decide_eq_false e, fd_pn (by omega), h]
theorem fd_a11a (u : Nat) (hu : u < 8) : fd_put (fd_put (fd_put (fun _ => (0 : Int64)) (10 * 0 + u) (fd_bit 0)) (10 * 1 + 1) (fd_bit 0)) (10 * 2 + 2) (fd_bit 0) 11 = fd_w true false := by
  rw [fd_pn (by omega), fd_pe (by omega), fd_pn (by omega)]
  show (0 : Int64) ||| fd_bit 0 = fd_w true false
  decide +kernel
theorem fd_a11b (f : Nat → Int64) (v : Nat) (hv : v < 8) (h : f 11 = fd_w true false) : fd_put (fd_put (fd_put f (10 * 0 + v) (fd_bit 1)) (10 * 1 + 1) (fd_bit 1)) (10 * 2 + 3) (fd_bit 1) 11 = fd_w true true := by
  rw [fd_pn (by omega), fd_pe (by omega), fd_pn (by omega), show 10 * 1 + 1 = 11 from rfl, h]
  exact fd_or true false false true
theorem fd_tagA (x p : Int64) (k : Int32) (g : Nat) (hp : p = 0) (h : x = bif fd_b k g then p ||| fd_bit 0 else p) : x = fd_w (fd_b k g) false := by
  subst hp
  rw [h]
  cases fd_b k g
  · rfl
  · show (0 : Int64) ||| fd_bit 0 = fd_w true false
    decide +kernel
theorem fd_tagB (x p : Int64) (k : Int32) (b : Bool) (g : Nat) (hp : p = fd_w b false) (h : x = bif fd_b k g then p ||| fd_bit 1 else p) : x = fd_w b (fd_b k g) := by
  subst hp
  rw [h]
  cases fd_b k g
  · rfl
  · show fd_w b false ||| fd_bit 1 = fd_w b true
    cases b <;> decide +kernel
theorem fd_lawOf (post : Int32 → St0 → Prop) (p0 p1 p2 p3 p4 : Int32) (hp : post 1 ()) : wpL_lawOf post 266 4256 () p0 p1 p2 p3 p4 := by
  unfold wpL_lawOf
  obtain ⟨u, hu, eu⟩ := pk_andE p1 3 (m := 7) (by decide)
  obtain ⟨v, hv, ev⟩ := pk_andE p2 3 (m := 7) (by decide)
  obtain ⟨k, hk, ek⟩ := pk_andE p1 8 (m := 255) (by decide)
  obtain ⟨l, hl, el⟩ := pk_andE p2 8 (m := 255) (by decide)
  have hu : u < 8 := hu
  have hv : v < 8 := hv
  have hk : k < 256 := hk
  have hl : l < 256 := hl
  rw [ek, el]
  refine ⟨by omega, by omega, 8, 446, by omega, by omega, ?_⟩
  refine ⟨by omega, by omega, by omega, by omega, by omega, by omega, by omega, by omega, by omega, by omega, by omega, by omega, by omega, by omega, by omega, by omega, ?_⟩
  refine ⟨by decide, fun x6 _ => nm_r eu (nm_r ev ?_)⟩
  refine fd_make0 u 1 2 (by omega) (by omega) (by omega) (fun _ _ => rfl) (fun b3 b8 hb3 hb8 => ?_)
  refine fd_make1 v 1 3 (by omega) (by omega) (by omega) (fun _ _ => rfl) rfl rfl (hb3 4 (by omega) (by omega)) (hb3 5 (by omega) (by omega)) (fun c3 c8 hc3 hd3 hc8 => ?_)
  refine fd_setT 0 k (by omega) hk rfl ((hc3 3 (by omega)).trans (hb3 3 (by omega) (by omega))) (fun r1 d2 d3 d8 hd2 hd3' hd8 => ?_)
  refine fd_setT 1 l (by omega) hl rfl ((hd3' 9 (by omega)).trans (hd3 3 (by omega) (by omega))) (fun r2 e2 e3 e8 he2 he3 he8 => ?_)
  have o0 : fd_ord 0 0 e3 (upd (upd (upd (upd (fun _ => 0) (0 + 0) (nI 0)) (48 + 0) (nI 0)) (0 + 1) (nI 1)) (48 + 1) (nI 1)) :=
    ⟨(he3 5 (by omega)).trans ((hd3' 5 (by omega)).trans ((hc3 5 (by omega)).trans (hb3 5 (by omega) (by omega)))), (he3 11 (by omega)).trans ((hd3' 11 (by omega)).trans (hd3 5 (by omega) (by omega))), Or.inl ⟨by omega, rfl, rfl⟩⟩
  refine fd_setA 0 0 u (by omega) (by omega) (by omega) rfl o0 (fun r3 f3 f4 f8 hf3 hf8 => ?_)
  refine fd_setB u 0 v (by omega) (by omega) (by omega) rfl hf3 (fun r4 g3 g4 g8 hg3 hg8 => ?_)
  have h8 : ∀ j, j < 6 → g8 j = fd_w true true := fun j hj => hg8 j (hf8 j (he8 j (hd8 j (hc8 j hj))))
  have h2 : ∀ g, g < 8 → e2 g = fd_w (fd_b (nI k) g) (fd_b (nI l) g) := fun g hg => fd_tagB _ _ _ _ g (fd_tagA _ _ _ g rfl (hd2 g hg)) (he2 g hg)
  have h1 := fun t (ht : t < 10) => fd_a1b _ u v t ht (fd_a1a u t ht)
  have h11 := fd_a11b _ v hv (fd_a11a u hu)
  refine br_c (fun e6 => ?_) (fun e6 => br_c (fun e1 => ?_) (fun e1 => ?_))
  · exact fd_k0 hp hu hv h1 h11 hg3 h8 p3 e6
  · refine nm_e (nm_e ?_)
    exact fd_k1 hp hu hv h1 h11 hg3 h8 (nI k) (nI l) h2 p3 p4 e6
  · exact fd_k2 hp hu hv h1 h11 hg3 h8 p3 p4 e6
theorem fd_cell {post : Int32 → Prop} (L : Nat) (xs : Nat → Int32) (i : Nat) (hL : L ≤ 5) (hi : i < 5) (H : ∀ r, post r) : wpL_cellAt post L xs () (nI i) :=
  pk_le L i (fun _ => H _) (fun z => ⟨pk_in i L z, H _⟩)
theorem i_vc (xs : Nat → Int32) (L : Nat) (hL : L ≤ 5) : wpL_law (fun r => r = 1) L xs := by
  unfold wpL_law
  refine fd_cell L xs 0 hL (by omega) (fun r1 => fd_cell L xs 1 hL (by omega) (fun r2 => fd_cell L xs 2 hL (by omega) (fun r3 => fd_cell L xs 3 hL (by omega) (fun r4 => fd_cell L xs 4 hL (by omega) (fun r5 => ?_)))))
  exact ⟨266, 4256, by omega, by omega, fd_lawOf _ r1 r2 r3 r4 r5 rfl⟩
end
