section
/-- a Boolean as the machine's int -/
def ll_b : Bool → Int32
  | true => 1
  | false => 0
/-- the array of a part, out of the packed word -/
def ll_A (w p : Int32) : Int32 := (w >>> ((2 * p) &&& 31)) &&& 3
/-- the shift of a part, out of the packed word -/
def ll_S (w p : Int32) : Int32 := ((w >>> ((4 * p) &&& 31)) &&& 15) - 4
/-- two parts meet -/
def ll_M (wa sa wb sb p q d : Int32) : Bool := decide (ll_A wa p = ll_A wb q) && decide (ll_S sa p = ll_S sb q + d)
/-- a statement looks at a source -/
def ll_R (o p : Int32) : Bool := if p = 1 then !decide (o = 5) else !decide (3 < o)
def ll_Fd (wa sa ob wb sb d : Int32) : Bool := (ll_R ob 1 && ll_M wa sa wb sb 0 1 d) || (ll_R ob 2 && ll_M wa sa wb sb 0 2 d)
def ll_Sp (oa wa sa wb sb d : Int32) : Bool := (ll_R oa 1 && ll_M wa sa wb sb 1 0 d) || (ll_R oa 2 && ll_M wa sa wb sb 2 0 d)
def ll_Q (oa wa sa ob wb sb d : Int32) : Bool := ll_M wa sa wb sb 0 0 d || (ll_Fd wa sa ob wb sb d || ll_Sp oa wa sa wb sb d)
/-- precedes; lt: the first statement stands ahead of the second -/
def ll_Pr (lt : Bool) (oa wa sa ob wb sb d : Int32) : Bool := (!decide (d = 0) || lt) && ll_Q oa wa sa ob wb sb d
def ll_PA (lt : Bool) (oa wa sa ob wb sb : Int32) : Bool := (List.range 9).any (fun i => ll_Pr lt oa wa sa ob wb sb (nI i))
/-- a statement fits into lanes -/
def ll_Ft (o w s : Int32) : Bool := !(ll_Fd w s o w s 1 || (ll_Fd w s o w s 2 || ll_Fd w s o w s 3))
/-- the place of a part at an index -/
def ll_I (w sw p i : Int32) : Int32 := ((ll_A w p * 32) + i) + ll_S sw p
/-- what a statement computes -/
def ll_op (o k x y : Int32) : Int32 :=
  if o < 0 then x * k else if 5 < o then x * k else if o = 0 then x + y else if o = 1 then x - y else if o = 2 then x * y
  else if o = 3 then (if y ≤ x then y else x) else if o = 4 then x + k else k
/-- a statement's part is outside at an index -/
def ll_O1 (w x p : Int32) : Bool := decide (x + ll_S w p < 0) || !decide (x + ll_S w p < 32)
def ll_O (w x : Int32) : Bool := ll_O1 w x 0 || (ll_O1 w x 1 || ll_O1 w x 2)
/-- the cells: F on [lo, hi), a0 elsewhere -/
def ll_C (a0 F : Nat → Int32) (lo hi : Nat) : Nat → Int32 := fun j => if lo ≤ j ∧ j < hi then F j else a0 j
theorem ll_C_0 (a0 F : Nat → Int32) (lo : Nat) : ll_C a0 F lo lo = a0 := by
  funext j
  exact if_neg (fun h => by omega)
theorem ll_C_up {a0 F : Nat → Int32} {lo i : Nat} (h : lo ≤ i) : upd (ll_C a0 F lo i) i (F i) = ll_C a0 F lo (i + 1) := by
  funext j
  by_cases e : j = i
  · rw [e, pk_us]
    exact (if_pos ⟨h, by omega⟩).symm
  · rw [pk_un e]
    by_cases g : lo ≤ j ∧ j < i
    · exact (if_pos g).trans (if_pos (⟨g.1, by omega⟩ : lo ≤ j ∧ j < i + 1)).symm
    · exact (if_neg g).trans (if_neg (fun z : lo ≤ j ∧ j < i + 1 => g ⟨z.1, by omega⟩)).symm
theorem ll_C_in {a0 F : Nat → Int32} {lo hi j : Nat} (h : lo ≤ j) (h2 : j < hi) : ll_C a0 F lo hi j = F j := if_pos ⟨h, h2⟩
theorem ll_C_out {a0 F : Nat → Int32} {lo hi j : Nat} (h : j < lo ∨ hi ≤ j) : ll_C a0 F lo hi j = a0 j := if_neg (fun z => by omega)
theorem ll_b1 : ¬ ll_b true = 0 := by decide
theorem ll_nb (b : Bool) : vp_nar .boolean (ll_b b) = ll_b b := by cases b <;> rfl
theorem ll_nr (b : Bool) : narrow .boolean (.int (ll_b b)) = .int (ll_b b) := by cases b <;> rfl
theorem ll_M_iff {wa sa wb sb p q d : Int32} : ll_M wa sa wb sb p q d = true ↔ (ll_A wa p = ll_A wb q ∧ ll_S sa p = ll_S sb q + d) := by
  unfold ll_M
  rw [Bool.and_eq_true, decide_eq_true_eq, decide_eq_true_eq]
theorem ll_fls {b : Bool} (h : ¬ b = true) : b = false := by
  cases b
  · rfl
  · exact absurd rfl h
theorem ll_bits : ∀ s, s < 4 → ∀ cn, cn ≤ 4 → ∀ t, t < cn → (((nI (2 ^ s) >>> (nI t &&& 31)) &&& 1) = 1 ↔ t = s) := by
  have h : ∀ s, s < 4 → ∀ t, t < 4 → (((nI (2 ^ s) >>> (nI t &&& 31)) &&& 1) = 1 ↔ t = s) := by decide +kernel
  exact fun s hs cn hc t ht => h s hs t (by omega)
/-- a row of 'behind' ahead of the closure -/
def ll_row (Q : Nat → Nat → Bool) (a : Nat) : Nat → Int32
  | 0 => (1 : Int32) <<< (nI a &&& 31)
  | n + 1 => if Q a n = true then ll_row Q a n ||| ((1 : Int32) <<< (nI n &&& 31)) else ll_row Q a n
/-- a circle -/
def ll_circ (B : Nat → Int32) (s : Nat) : Nat → Int32
  | 0 => 0
  | n + 1 => if ((B s >>> (nI n &&& 31)) &&& 1) = 1 ∧ ((B n >>> (nI s &&& 31)) &&& 1) = 1 then ll_circ B s n ||| ((1 : Int32) <<< (nI n &&& 31)) else ll_circ B s n
end
section
section
variable {post : Int32 → Prop} {c r g : Int32} {a1 a2 a3 a4 a5 a6 a7 a8 a9 : Nat → Int32} {s t : Nat} {p q d : Int32}
theorem ll_meets (hs : s < 4) (ht : t < 4) (H : post (ll_b (ll_M (a3 s) (a4 s) (a3 t) (a4 t) p q d))) :
    wpX_meets post (c, r, g, a1, a2, a3, a4, a5, a6, a7, a8, a9) (nI s) p (nI t) q d := by
  unfold wpX_meets wpX_arrayOf wpX_shiftOf
  dsimp only
  rw [nI_clamp (show s < 2 ^ 31 by omega), nI_clamp (show t < 2 ^ 31 by omega)]
  refine ⟨pk_in s 4 hs, pk_in t 4 ht, br_c (fun e => ⟨pk_in s 4 hs, pk_in t 4 ht, br_c (fun e2 => ?_) (fun e2 => ?_)⟩) (fun e => ?_)⟩
  · rw [ll_M_iff.mpr ⟨e, e2⟩] at H
    exact H
  · rw [ll_fls (fun z => e2 (ll_M_iff.mp z).2)] at H
    exact H
  · rw [ll_fls (fun z => e (ll_M_iff.mp z).1)] at H
    exact H
theorem ll_reads (ht : t < 4) (H : post (ll_b (ll_R (a2 t) p))) : wpX_reads post (c, r, g, a1, a2, a3, a4, a5, a6, a7, a8, a9) (nI t) p := by
  unfold wpX_reads
  dsimp only
  rw [nI_clamp (show t < 2 ^ 31 by omega)]
  unfold ll_R at H
  by_cases e : p = 1
  · rw [if_pos e] at H
    refine br_t e ⟨pk_in t 4 ht, br_c (fun z => ?_) (fun z => ?_)⟩
    · rw [decide_eq_true z] at H
      exact H
    · rw [decide_eq_false z] at H
      exact H
  · rw [if_neg e] at H
    refine br_f e ⟨pk_in t 4 ht, br_c (fun z => ?_) (fun z => ?_)⟩
    · rw [decide_eq_true z] at H
      exact H
    · rw [decide_eq_false z] at H
      exact H
theorem ll_feeds_s {n : Nat} (hs : s < 4) (ht : t < 4) (hp : ¬ (3 : Int32) ≤ p) (h1 : (ll_R (a2 t) p && ll_M (a3 s) (a4 s) (a3 t) (a4 t) 0 p d) = true → post 1)
    (h0 : (ll_R (a2 t) p && ll_M (a3 s) (a4 s) (a3 t) (a4 t) 0 p d) = false → wX_feeds_3 post (nI s) (nI t) d c r g a1 a2 a3 a4 a5 a6 a7 a8 a9 n (p + 1)) :
    wX_feeds_3 post (nI s) (nI t) d c r g a1 a2 a3 a4 a5 a6 a7 a8 a9 (n + 1) p := by
  refine br_f hp (ll_reads ht ?_)
  cases hR : ll_R (a2 t) p
  · exact br_t rfl (br_t rfl (nm_e (h0 (by rw [hR]; rfl))))
  · refine br_f ll_b1 (ll_meets hs ht ?_)
    cases hM : ll_M (a3 s) (a4 s) (a3 t) (a4 t) 0 p d
    · exact br_t rfl (br_t rfl (nm_e (h0 (by rw [hR, hM]; rfl))))
    · exact br_f ll_b1 (br_f ll_b1 (h1 (by rw [hR, hM]; rfl)))
theorem ll_feeds (hs : s < 4) (ht : t < 4) (H : post (ll_b (ll_Fd (a3 s) (a4 s) (a2 t) (a3 t) (a4 t) d))) :
    wpX_feeds post (c, r, g, a1, a2, a3, a4, a5, a6, a7, a8, a9) (nI s) (nI t) d := by
  unfold ll_Fd at H
  refine ⟨3, ll_feeds_s (p := 1) hs ht (by decide) (fun h => ?_) (fun h => ?_)⟩
  · rw [h] at H
    exact H
  · rw [h] at H
    refine ll_feeds_s (p := 2) hs ht (by decide) (fun h => ?_) (fun h => ?_)
    · rw [h] at H
      exact H
    · rw [h] at H
      exact br_t (by decide) H
theorem ll_spoils_s {n : Nat} (hs : s < 4) (ht : t < 4) (hp : ¬ (3 : Int32) ≤ p) (h1 : (ll_R (a2 s) p && ll_M (a3 s) (a4 s) (a3 t) (a4 t) p 0 d) = true → post 1)
    (h0 : (ll_R (a2 s) p && ll_M (a3 s) (a4 s) (a3 t) (a4 t) p 0 d) = false → wX_spoils_3 post (nI s) (nI t) d c r g a1 a2 a3 a4 a5 a6 a7 a8 a9 n (p + 1)) :
    wX_spoils_3 post (nI s) (nI t) d c r g a1 a2 a3 a4 a5 a6 a7 a8 a9 (n + 1) p := by
  refine br_f hp (ll_reads hs ?_)
  cases hR : ll_R (a2 s) p
  · exact br_t rfl (br_t rfl (nm_e (h0 (by rw [hR]; rfl))))
  · refine br_f ll_b1 (ll_meets hs ht ?_)
    cases hM : ll_M (a3 s) (a4 s) (a3 t) (a4 t) p 0 d
    · exact br_t rfl (br_t rfl (nm_e (h0 (by rw [hR, hM]; rfl))))
    · exact br_f ll_b1 (br_f ll_b1 (h1 (by rw [hR, hM]; rfl)))
theorem ll_spoils (hs : s < 4) (ht : t < 4) (H : post (ll_b (ll_Sp (a2 s) (a3 s) (a4 s) (a3 t) (a4 t) d))) :
    wpX_spoils post (c, r, g, a1, a2, a3, a4, a5, a6, a7, a8, a9) (nI s) (nI t) d := by
  unfold ll_Sp at H
  refine ⟨3, ll_spoils_s (p := 1) hs ht (by decide) (fun h => ?_) (fun h => ?_)⟩
  · rw [h] at H
    exact H
  · rw [h] at H
    refine ll_spoils_s (p := 2) hs ht (by decide) (fun h => ?_) (fun h => ?_)
    · rw [h] at H
      exact H
    · rw [h] at H
      exact br_t (by decide) H
theorem ll_prec11 (hs : s < 4) (ht : t < 4) (H : post (ll_b (ll_Q (a2 s) (a3 s) (a4 s) (a2 t) (a3 t) (a4 t) d))) :
    wX_precedes_11 post (nI s) (nI t) d c r g a1 a2 a3 a4 a5 a6 a7 a8 a9 := by
  unfold wX_precedes_11
  unfold ll_Q at H
  refine ll_meets hs ht ?_
  cases hM : ll_M (a3 s) (a4 s) (a3 t) (a4 t) 0 0 d
  · refine br_t rfl (ll_feeds hs ht ?_)
    cases hF : ll_Fd (a3 s) (a4 s) (a2 t) (a3 t) (a4 t) d
    · refine br_t rfl (ll_spoils hs ht ?_)
      cases hS : ll_Sp (a2 s) (a3 s) (a4 s) (a3 t) (a4 t) d
      · rw [hM, hF, hS] at H
        exact br_t rfl H
      · rw [hM, hF, hS] at H
        exact br_f ll_b1 H
    · rw [hM, hF] at H
      exact br_f ll_b1 H
  · rw [hM] at H
    exact br_f ll_b1 H
theorem ll_prec (hs : s < 4) (ht : t < 4) (H : post (ll_b (ll_Pr (decide (s < t)) (a2 s) (a3 s) (a4 s) (a2 t) (a3 t) (a4 t) d))) :
    wpX_precedes post (c, r, g, a1, a2, a3, a4, a5, a6, a7, a8, a9) (nI s) (nI t) d := by
  unfold wpX_precedes
  dsimp only
  unfold ll_Pr at H
  by_cases e : d = 0
  · rw [decide_eq_true e] at H
    refine br_t e (pk_lt s t (fun z => ?_) (fun z => ?_))
    · rw [decide_eq_true z] at H
      exact ll_prec11 hs ht H
    · rw [decide_eq_false (show ¬ s < t by omega)] at H
      exact H
  · rw [decide_eq_false e] at H
    exact br_f e (ll_prec11 hs ht H)
theorem ll_mp {cn d : Nat} (hs : s < cn) (ht : t < cn) (hc : cn ≤ 4) (hd : d ≤ 8) (H : post (ll_b (ll_Pr (decide (s < t)) (a2 s) (a3 s) (a4 s) (a2 t) (a3 t) (a4 t) (nI d)))) :
    wpX_mustPrecede post (nI cn, r, g, a1, a2, a3, a4, a5, a6, a7, a8, a9) (nI s) (nI t) (nI d) := by
  unfold wpX_mustPrecede wpX_noStatement
  dsimp only
  refine br_f (nI_pos (by omega)) (pk_lt 8 d (fun z => absurd z (by omega)) (fun _ => ?_))
  refine br_f (nI_pos (by omega)) (pk_lt s cn (fun _ => br_t rfl ?_) (fun z => absurd z (by omega)))
  refine br_f (nI_pos (by omega)) (pk_lt t cn (fun _ => br_t rfl ?_) (fun z => absurd z (by omega)))
  exact ll_prec (by omega) (by omega) ⟨ll_nr _, H⟩
theorem ll_mpN {cn d : Nat} (hs : s < cn) (ht : cn ≤ t) (ht4 : t < 4) (hd : d ≤ 8) (H : post 0) :
    wpX_mustPrecede post (nI cn, r, g, a1, a2, a3, a4, a5, a6, a7, a8, a9) (nI s) (nI t) (nI d) := by
  unfold wpX_mustPrecede wpX_noStatement
  dsimp only
  refine br_f (nI_pos (by omega)) (pk_lt 8 d (fun z => absurd z (by omega)) (fun _ => ?_))
  refine br_f (nI_pos (by omega)) (pk_lt s cn (fun _ => br_t rfl ?_) (fun z => absurd z (by omega)))
  exact br_f (nI_pos (by omega)) (pk_lt t cn (fun z => absurd z (by omega)) (fun _ => br_f (by decide) H))
theorem ll_paa (hs : s < 4) (ht : t < 4) (H : post (ll_b (ll_PA (decide (s < t)) (a2 s) (a3 s) (a4 s) (a2 t) (a3 t) (a4 t)))) :
    wpX_precedesAtAll post (c, r, g, a1, a2, a3, a4, a5, a6, a7, a8, a9) (nI s) (nI t) := by
  unfold wpX_precedesAtAll
  dsimp only
  unfold ll_PA at H
  refine pk_loop (σ := Unit) (fun n i _ => wX_precedesAtAll_2 post (nI s) (nI t) c r g a1 a2 a3 a4 a5 a6 a7 a8 a9 n (nI i))
    (fun i _ => ∀ j, j < i → ll_Pr (decide (s < t)) (a2 s) (a3 s) (a4 s) (a2 t) (a3 t) (a4 t) (nI j) = false) 9 0 () (by omega) (fun j hj => absurd hj (by omega)) ?_ ?_
  · intro n _ h
    refine pk_lt 8 9 (fun _ => ?_) (fun z => absurd z (by omega))
    rw [List.any_eq_false.mpr (fun j hj => by rw [h j (List.mem_range.mp hj)]; exact Bool.false_ne_true)] at H
    exact H
  · intro n i _ hi h hw
    refine pk_lt 8 i (fun z => absurd z (by omega)) (fun _ => ll_prec hs ht ?_)
    cases hP : ll_Pr (decide (s < t)) (a2 s) (a3 s) (a4 s) (a2 t) (a3 t) (a4 t) (nI i)
    · exact br_t rfl (nm_r (nI_1 i) (hw () (lt_s h hP)))
    · rw [List.any_eq_true.mpr ⟨i, List.mem_range.mpr hi, hP⟩] at H
      exact br_f ll_b1 H
theorem ll_fitsl (hs : s < 4) (H : post (ll_b (ll_Ft (a2 s) (a3 s) (a4 s)))) :
    wpX_fitsLanes post (c, r, g, a1, a2, a3, a4, a5, a6, a7, a8, a9) (nI s) := by
  unfold wpX_fitsLanes
  dsimp only
  unfold ll_Ft at H
  refine ⟨4, br_f (by decide) (ll_feeds hs hs ?_)⟩
  cases h1 : ll_Fd (a3 s) (a4 s) (a2 s) (a3 s) (a4 s) 1
  · refine br_t rfl (nm_r (e' := 2) (by decide) (br_f (by decide) (ll_feeds hs hs ?_)))
    cases h2 : ll_Fd (a3 s) (a4 s) (a2 s) (a3 s) (a4 s) 2
    · refine br_t rfl (nm_r (e' := 3) (by decide) (br_f (by decide) (ll_feeds hs hs ?_)))
      cases h3 : ll_Fd (a3 s) (a4 s) (a2 s) (a3 s) (a4 s) 3
      · rw [h1, h2, h3] at H
        exact br_t rfl (nm_r (e' := 4) (by decide) (br_t (by decide) H))
      · rw [h1, h2, h3] at H
        exact br_f ll_b1 H
    · rw [h1, h2] at H
      exact br_f ll_b1 H
  · rw [h1] at H
    exact br_f ll_b1 H
end
end
section
section
variable {r g : Int32} {a1 a2 a3 a4 a5 a6 a7 a8 a9 : Nat → Int32} {cn : Nat}
/-- who must come behind whom at all, by the statements' words -/
def ll_W (a2 a3 a4 : Nat → Int32) (s t : Nat) : Bool := ll_PA (decide (s < t)) (a2 s) (a3 s) (a4 s) (a2 t) (a3 t) (a4 t)
theorem ll_fb21 {post : St2 → Prop} {J : Int32 → (Nat → Int32) → (Nat → Int32) → (Nat → Int32) → (Nat → Int32) → (Nat → Int32) → (Nat → Int32) → (Nat → Int32) → (Nat → Int32) → (Nat → Int32) → Prop} {a : Nat} (hc : cn ≤ 4) (ha : a < cn)
    (h6 : a6 a = ll_row (ll_W a2 a3 a4) a 0)
    (H : ∀ m : Nat → Int32, m a = ll_row (ll_W a2 a3 a4) a cn → (∀ j, j ≠ a → m j = a6 j) → J (nI (a + 1)) a1 a2 a3 a4 a5 m a7 a8 a9) :
    ∃ n, wX_findBehind_21 post J (nI a) (nI cn) r g n 0 a1 a2 a3 a4 a5 a6 a7 a8 a9 := by
  refine pk_loop (fun n i m => wX_findBehind_21 post J (nI a) (nI cn) r g n (nI i) a1 a2 a3 a4 a5 m a7 a8 a9)
    (fun i m => m a = ll_row (ll_W a2 a3 a4) a i ∧ ∀ j, j ≠ a → m j = a6 j) cn 0 a6 (by omega) ⟨h6, fun _ _ => rfl⟩ ?_ ?_
  · intro n m h
    exact pk_le cn cn (fun _ => nm_r (nI_1 a) (H m h.1 h.2)) (fun z => absurd z (by omega))
  · intro n i m hi h hw
    refine pk_le cn i (fun z => absurd z (by omega)) (fun _ => ll_paa (by omega) (by omega) ?_)
    cases hP : ll_PA (decide (a < i)) (a2 a) (a3 a) (a4 a) (a2 i) (a3 i) (a4 i)
    · refine br_t rfl (nm_r (nI_1 i) (hw m ⟨?_, h.2⟩))
      rw [h.1]
      exact (if_neg (by rw [show ll_W a2 a3 a4 a i = false from hP]; exact Bool.false_ne_true)).symm
    · refine br_f ll_b1 ⟨pk_in a 4 (by omega), pk_in a 4 (by omega), nm_e (nm_r (nI_1 i) (hw _ ⟨?_, fun j hj => ?_⟩))⟩
      · rw [nI_clamp (show a < 2 ^ 31 by omega), pk_us, h.1]
        exact (if_pos hP).symm
      · rw [nI_clamp (show a < 2 ^ 31 by omega), pk_un hj]
        exact h.2 j hj
/-- the closure leaves such rows as they are -/
def ll_cl (B : Nat → Int32) (cn : Nat) : Prop := ∀ k, k < cn → ∀ a, a < cn → ((B a >>> (nI k &&& 31)) &&& 1) = 1 → B a ||| B k = B a
theorem ll_fb66 {post : St2 → Prop} {B : Nat → Int32} (hc : cn ≤ 4) (hB : ll_cl B cn) (h6 : ∀ j, j < cn → a6 j = B j)
    (H : ∀ m : Nat → Int32, (∀ j, j < cn → m j = B j) → post (nI cn, r, g, a1, a2, a3, a4, a5, m, a7, a8, a9)) :
    ∃ n, wX_findBehind_66 post (nI cn) r g n 0 a1 a2 a3 a4 a5 a6 a7 a8 a9 := by
  refine pk_loop (fun n k m => wX_findBehind_66 post (nI cn) r g n (nI k) a1 a2 a3 a4 a5 m a7 a8 a9)
    (fun _ m => ∀ j, j < cn → m j = B j) cn 0 a6 (by omega) h6 ?_ ?_
  · intro n m h
    exact pk_le cn cn (fun _ => H m h) (fun z => absurd z (by omega))
  · intro n k m hk h hw
    refine pk_le cn k (fun z => absurd z (by omega)) (fun _ => ?_)
    refine pk_loop (fun n' i m => wX_findBehind_76 post (wX_findBehind_66 post (nI cn) r g n) (nI k) (nI cn) r g n' (nI i) a1 a2 a3 a4 a5 m a7 a8 a9)
      (fun _ m => ∀ j, j < cn → m j = B j) cn 0 m (by omega) h ?_ ?_
    · intro n' m' h'
      exact pk_le cn cn (fun _ => nm_r (nI_1 k) (hw m' h')) (fun z => absurd z (by omega))
    · intro n' i m' hi h' hw'
      refine pk_le cn i (fun z => absurd z (by omega)) (fun _ => ⟨pk_in i 4 (by omega), ?_⟩)
      rw [nI_clamp (show i < 2 ^ 31 by omega), nI_clamp (show k < 2 ^ 31 by omega), h' i hi, h' k hk]
      refine br_c (fun e => ⟨pk_in i 4 (by omega), pk_in k 4 (by omega), pk_in i 4 (by omega), nm_e (nm_r (nI_1 i) (hw' _ (fun j hj => ?_)))⟩) (fun e => nm_r (nI_1 i) (hw' m' h'))
      by_cases ej : j = i
      · rw [ej, pk_us]
        exact hB k hk i hi e
      · rw [pk_un ej]
        exact h' j hj
theorem ll_findBehind {post : St2 → Prop} {B : Nat → Int32} (hc : cn ≤ 4) (hB : ll_cl B cn) (hr : ∀ j, j < cn → ll_row (ll_W a2 a3 a4) j cn = B j)
    (H : ∀ m : Nat → Int32, (∀ j, j < cn → m j = B j) → post (nI cn, r, g, a1, a2, a3, a4, a5, m, a7, a8, a9)) :
    wpX_findBehind post (nI cn, r, g, a1, a2, a3, a4, a5, a6, a7, a8, a9) := by
  unfold wpX_findBehind
  dsimp only
  refine pk_loop (fun n i m => wX_findBehind_2 post (nI cn) r g n (nI i) a1 a2 a3 a4 a5 m a7 a8 a9)
    (fun i m => ∀ j, j < i → m j = B j) cn 0 a6 (by omega) (fun j hj => absurd hj (by omega)) ?_ ?_
  · intro n m h
    exact pk_le cn cn (fun _ => ll_fb66 hc hB h H) (fun z => absurd z (by omega))
  · intro n i m hi h hw
    refine pk_le cn i (fun z => absurd z (by omega)) (fun _ => ⟨pk_in i 4 (by omega), nm_e ?_⟩)
    rw [nI_clamp (show i < 2 ^ 31 by omega)]
    refine ll_fb21 hc hi pk_us (fun m' h1 h2 => hw m' (fun j hj => ?_))
    by_cases ej : j = i
    · rw [ej, h1]
      exact hr i hi
    · rw [h2 j ej, pk_un ej]
      exact h j (by omega)
theorem ll_circle {post : Int32 → Prop} {B : Nat → Int32} {s : Nat} (hc : cn ≤ 4) (hs : s < cn) (h6 : ∀ j, j < cn → a6 j = B j) (H : post (ll_circ B s cn)) :
    wpX_circleOf post (nI cn, r, g, a1, a2, a3, a4, a5, a6, a7, a8, a9) (nI s) := by
  unfold wpX_circleOf
  dsimp only
  refine pk_loop (fun n i x => wX_circleOf_4 post (nI s) (nI cn) r g a1 a2 a3 a4 a5 a6 a7 a8 a9 n x (nI i))
    (fun i x => x = ll_circ B s i) cn 0 0 (by omega) rfl ?_ ?_
  · intro n x h
    exact pk_le cn cn (fun _ => by rw [h]; exact H) (fun z => absurd z (by omega))
  · intro n i x hi h hw
    refine pk_le cn i (fun z => absurd z (by omega)) (fun _ => ⟨pk_in s 4 (by omega), ?_⟩)
    rw [nI_clamp (show i < 2 ^ 31 by omega), nI_clamp (show s < 2 ^ 31 by omega), h6 i hi, h6 s hs]
    refine br_c (fun e => ⟨pk_in i 4 (by omega), br_c (fun e2 => ?_) (fun e2 => ?_)⟩) (fun e => ?_)
    · refine nm_e (nm_r (nI_1 i) (hw _ ?_))
      rw [h]
      exact (if_pos ⟨e, e2⟩).symm
    · refine nm_r (nI_1 i) (hw _ ?_)
      rw [h]
      exact (if_neg (fun z => e2 z.2)).symm
    · refine nm_r (nI_1 i) (hw _ ?_)
      rw [h]
      exact (if_neg (fun z => e z.1)).symm
theorem ll_free {post : Int32 → Prop} {B : Nat → Int32} {st pl : Int32} (hc : cn ≤ 4) (h6 : ∀ j, j < cn → a6 j = B j)
    (hf : ∀ t, t < cn → (((st ||| pl) >>> (nI t &&& 31)) &&& 1) = 0 → B t &&& st = 0) (H : post 1) :
    wpX_free post (nI cn, r, g, a1, a2, a3, a4, a5, a6, a7, a8, a9) st pl := by
  unfold wpX_free
  dsimp only
  refine pk_loop (σ := Unit) (fun n i _ => wX_free_2 post st pl (nI cn) r g a1 a2 a3 a4 a5 a6 a7 a8 a9 n (nI i)) (fun _ _ => True) cn 0 () (by omega) trivial ?_ ?_
  · intro n _ _
    exact pk_le cn cn (fun _ => H) (fun z => absurd z (by omega))
  · intro n i _ hi _ hw
    refine pk_le cn i (fun z => absurd z (by omega)) (fun _ => br_c (fun e => ?_) (fun e => br_t rfl (nm_r (nI_1 i) (hw () trivial))))
    refine br_f (by decide) ⟨pk_in i 4 (by omega), br_t ?_ (nm_r (nI_1 i) (hw () trivial))⟩
    rw [nI_clamp (show i < 2 ^ 31 by omega), h6 i hi]
    exact hf i hi e
theorem ll_next {post : Int32 → Prop} {B : Nat → Int32} {st pl : Int32} {k : Nat} (hc : cn ≤ 4) (hk : k < cn) (h6 : ∀ j, j < cn → a6 j = B j)
    (hp : ∀ t, t < k → ¬ ((pl >>> (nI t &&& 31)) &&& 1) = 0) (hp2 : ((pl >>> (nI k &&& 31)) &&& 1) = 0) (hci : ll_circ B k cn = st)
    (hf : ∀ t, t < cn → (((st ||| pl) >>> (nI t &&& 31)) &&& 1) = 0 → B t &&& st = 0) (H : post st) :
    wpX_nextGroup post (nI cn, r, g, a1, a2, a3, a4, a5, a6, a7, a8, a9) pl := by
  unfold wpX_nextGroup
  dsimp only
  refine pk_loop (σ := Unit) (fun n i _ => wX_nextGroup_2 post pl (nI cn) r g a1 a2 a3 a4 a5 a6 a7 a8 a9 n (nI i)) (fun _ _ => True) k 0 () (by omega) trivial ?_ ?_
  · intro n _ _
    refine pk_le cn k (fun z => absurd z (by omega)) (fun _ => br_t hp2 (ll_circle hc hk h6 ?_))
    rw [hci]
    exact ll_free hc h6 hf (br_f (by decide) H)
  · intro n i _ hi _ hw
    exact pk_le cn i (fun z => absurd z (by omega)) (fun _ => br_f (hp i hi) (nm_r (nI_1 i) (hw () trivial)))
theorem ll_lowest {post : Int32 → Prop} {st : Int32} {k : Nat} (hk : k < 4) (hz : ∀ t, t < k → ((st >>> (nI t &&& 31)) &&& 1) = 0) (ho : ¬ ((st >>> (nI k &&& 31)) &&& 1) = 0) (H : post (nI k)) :
    wpX_lowest post () st := by
  unfold wpX_lowest
  refine pk_loop (σ := Unit) (fun n i _ => wX_lowest_2 post st n (nI i)) (fun _ _ => True) k 0 () (by omega) trivial ?_ ?_
  · intro n _ _
    exact pk_le 3 k (fun _ => H) (fun _ => br_f ho H)
  · intro n i _ hi _ hw
    exact pk_le 3 i (fun z => absurd z (by omega)) (fun _ => br_t (hz i hi) (nm_r (nI_1 i) (hw () trivial)))
/-- the groups come out as single statements, in order -/
def ll_OK (B : Nat → Int32) (cn : Nat) : Prop := ∀ k, k < cn →
  ll_circ B k cn = nI (2 ^ k) ∧ ∀ t, t < cn → (((nI (2 ^ k) ||| nI (2 ^ k - 1)) >>> (nI t &&& 31)) &&& 1) = 0 → B t &&& nI (2 ^ k) = 0
theorem ll_pw : ∀ k, k < 4 → (∀ t, t < k → ¬ ((nI (2 ^ k - 1) >>> (nI t &&& 31)) &&& 1) = 0) ∧ ((nI (2 ^ k - 1) >>> (nI k &&& 31)) &&& 1) = 0 ∧ ¬ nI (2 ^ k) = 0
    ∧ (nI (2 ^ k) &&& (nI (2 ^ k) - 1)) = 0 ∧ (∀ t, t < k → ((nI (2 ^ k) >>> (nI t &&& 31)) &&& 1) = 0) ∧ (¬ ((nI (2 ^ k) >>> (nI k &&& 31)) &&& 1) = 0) ∧ nI (2 ^ k - 1) ||| nI (2 ^ k) = nI (2 ^ (k + 1) - 1) := by decide +kernel
theorem ll_plan {post : St2 → Prop} {B : Nat → Int32} (hc : cn ≤ 4) (hB : ll_cl B cn) (hr : ∀ j, j < cn → ll_row (ll_W a2 a3 a4) j cn = B j) (hO : ll_OK B cn)
    (H : ∀ m6 m7 m8 : Nat → Int32, (∀ j, j < cn → m7 j = nI (2 ^ j)) → (∀ j, j < cn → m8 j = ll_b (ll_Ft (a2 j) (a3 j) (a4 j))) → post (nI cn, 1, nI cn, a1, a2, a3, a4, a5, m6, m7, m8, a9)) :
    wpX_plan post (nI cn, 0, g, a1, a2, a3, a4, a5, a6, a7, a8, a9) := by
  unfold wpX_plan
  dsimp only
  refine br_t rfl (ll_findBehind hc hB hr (fun m6 h6 => ?_))
  refine pk_loop (σ := (Nat → Int32) × (Nat → Int32)) (fun n k s => wX_plan_26 post (nI cn) 1 n (nI (2 ^ k - 1)) (nI k) (nI k) a1 a2 a3 a4 a5 m6 s.1 s.2 a9)
    (fun k s => (∀ j, j < k → s.1 j = nI (2 ^ j)) ∧ ∀ j, j < k → s.2 j = ll_b (ll_Ft (a2 j) (a3 j) (a4 j))) cn 0 (a7, a8) (by omega)
    ⟨fun j hj => absurd hj (by omega), fun j hj => absurd hj (by omega)⟩ ?_ ?_
  · intro n s h
    exact pk_le cn cn (fun _ => H m6 s.1 s.2 h.1 h.2) (fun z => absurd z (by omega))
  · intro n k s hk h hw
    obtain ⟨p1, p2, p3, p4, p5, p6, p7⟩ := ll_pw k (by omega)
    obtain ⟨o1, o2⟩ := hO k hk
    have fin : ∀ ψ, ψ = ll_b (ll_Ft (a2 k) (a3 k) (a4 k)) →
        wX_plan_94 post (wX_plan_26 post (nI cn) 1 n) (nI (2 ^ k - 1)) (nI k) (nI (2 ^ k)) ψ (nI k) (nI cn) 1 (nI k) a1 a2 a3 a4 a5 m6 (upd s.1 k (nI (2 ^ k))) s.2 a9 := by
      intro ψ hψ
      unfold wX_plan_94
      rw [nI_clamp (show k < 2 ^ 31 by omega), hψ, ll_nb]
      refine ⟨pk_in k 4 (by omega), nm_e (nm_r (nI_1 k) (nm_r p7 (nm_r (nI_1 k) ?_)))⟩
      refine hw (upd s.1 k (nI (2 ^ k)), upd s.2 k (ll_b (ll_Ft (a2 k) (a3 k) (a4 k)))) ⟨fun j hj => ?_, fun j hj => ?_⟩
      · show upd s.1 k (nI (2 ^ k)) j = _
        by_cases ej : j = k
        · rw [ej, pk_us]
        · rw [pk_un ej]
          exact h.1 j (by omega)
      · show upd s.2 k (ll_b (ll_Ft (a2 k) (a3 k) (a4 k))) j = _
        by_cases ej : j = k
        · rw [ej, pk_us]
        · rw [pk_un ej]
          exact h.2 j (by omega)
    refine pk_le cn k (fun z => absurd z (by omega)) (fun _ => ll_next hc hk h6 p1 p2 o1 o2 ?_)
    refine br_f p3 ⟨pk_in k 4 (by omega), nm_r (e' := upd s.1 k (nI (2 ^ k))) (by rw [nI_clamp (show k < 2 ^ 31 by omega)]) ?_⟩
    unfold wpX_oneStatement
    dsimp only
    refine br_t p4 (ll_lowest (by omega) p5 p6 (br_f (by decide) (ll_fitsl (by omega) ?_)))
    cases hF : ll_Ft (a2 k) (a3 k) (a4 k)
    · exact br_t rfl (fin 0 (by rw [hF]; rfl))
    · exact br_f ll_b1 (fin 1 (by rw [hF]; rfl))
end
end
section
section
variable {c r g : Int32} {a1 a2 a3 a4 a5 a6 a7 a8 a9 : Nat → Int32} {s : Nat}
theorem ll_source {post : Int32 → Prop} {p i : Int32} {x : Nat} (hs : s < 4) (hx : ll_I (a3 s) (a4 s) p i = nI x) (hx9 : x < 96) (H : post (a1 x)) :
    wpX_source post (c, r, g, a1, a2, a3, a4, a5, a6, a7, a8, a9) (nI s) p i := by
  unfold wpX_source wpX_arrayOf wpX_shiftOf
  dsimp only
  rw [nI_clamp (show s < 2 ^ 31 by omega)]
  refine ⟨pk_in s 4 hs, pk_in s 4 hs, ?_⟩
  show vp_in (ll_I (a3 s) (a4 s) p i) 96 ∧ post (a1 (ll_I (a3 s) (a4 s) p i).toNatClampNeg)
  rw [hx, nI_clamp (show x < 2 ^ 31 by omega)]
  exact ⟨pk_in x 96 hx9, H⟩
theorem ll_store {post : St2 → Prop} {i v : Int32} {x : Nat} (hs : s < 4) (hx : ll_I (a3 s) (a4 s) 0 i = nI x) (hx9 : x < 96)
    (H : post (c, r, g, upd a1 x v, a2, a3, a4, a5, a6, a7, a8, a9)) :
    wpX_store post (c, r, g, a1, a2, a3, a4, a5, a6, a7, a8, a9) (nI s) i v := by
  unfold wpX_store wpX_arrayOf wpX_shiftOf
  dsimp only
  rw [nI_clamp (show s < 2 ^ 31 by omega)]
  refine ⟨pk_in s 4 hs, pk_in s 4 hs, ?_⟩
  show vp_in (ll_I (a3 s) (a4 s) 0 i) 96 ∧ ∀ m : Nat → Int32, m = upd a1 (ll_I (a3 s) (a4 s) 0 i).toNatClampNeg v → post (c, r, g, m, a2, a3, a4, a5, a6, a7, a8, a9)
  rw [hx, nI_clamp (show x < 2 ^ 31 by omega)]
  exact ⟨pk_in x 96 hx9, nm_e H⟩
theorem ll_result {post : Int32 → Prop} {i : Int32} {x y : Nat} (hs : s < 4) (hx : ll_I (a3 s) (a4 s) 1 i = nI x) (hx9 : x < 96) (hy : ll_I (a3 s) (a4 s) 2 i = nI y) (hy9 : y < 96)
    (H : post (ll_op (a2 s) (a5 s) (a1 x) (a1 y))) :
    wpX_result post (c, r, g, a1, a2, a3, a4, a5, a6, a7, a8, a9) (nI s) i := by
  unfold wpX_result
  dsimp only
  refine ll_source hs hx hx9 (ll_source hs hy hy9 ?_)
  rw [nI_clamp (show s < 2 ^ 31 by omega)]
  unfold ll_op at H
  refine ⟨pk_in s 4 hs, nm_e ?_⟩
  refine br_c (fun z => ⟨pk_in s 4 hs, by rw [if_pos z] at H; exact H⟩) (fun z => ?_)
  rw [if_neg z] at H
  refine br_c (fun z => ⟨pk_in s 4 hs, by rw [if_pos z] at H; exact H⟩) (fun z => ?_)
  rw [if_neg z] at H
  refine br_c (fun z => by rw [if_pos z] at H; exact H) (fun z => ?_)
  rw [if_neg z] at H
  refine br_c (fun z => by rw [if_pos z] at H; exact H) (fun z => ?_)
  rw [if_neg z] at H
  refine br_c (fun z => by rw [if_pos z] at H; exact H) (fun z => ?_)
  rw [if_neg z] at H
  refine br_c (fun z => ?_) (fun z => ?_)
  · rw [if_pos z] at H
    exact br_c (fun z => by rw [if_pos z] at H; exact H) (fun z => by rw [if_neg z] at H; exact H)
  rw [if_neg z] at H
  refine br_c (fun z => ⟨pk_in s 4 hs, by rw [if_pos z] at H; exact H⟩) (fun z => ?_)
  rw [if_neg z] at H
  exact br_c (fun _ => ⟨pk_in s 4 hs, H⟩) (fun _ => trivial)
/-- the places of a statement at the indexes low .. high -/
def ll_K (w sw : Int32) (t0 : Nat) (x y : Nat → Nat) (low high : Nat) : Prop := ∀ i, i < 32 → low ≤ i → i ≤ high →
  ll_I w sw 0 (nI i) = nI (t0 + i) ∧ t0 + i < 96 ∧ ll_I w sw 1 (nI i) = nI (x i) ∧ x i < 96 ∧ ll_I w sw 2 (nI i) = nI (y i) ∧ y i < 96
/-- the values: what is computed at i', over the cells as they are at i, is F -/
def ll_V (o k : Int32) (a0 F : Nat → Int32) (t0 : Nat) (x y : Nat → Nat) (low high span : Nat) : Prop := ∀ i i', low ≤ i → i ≤ i' → i' < i + span → i' ≤ high →
  ll_op o k (ll_C a0 F (t0 + low) (t0 + i) (x i')) (ll_C a0 F (t0 + low) (t0 + i) (y i')) = F (t0 + i')
theorem ll_V_1 {o k : Int32} {a0 F : Nat → Int32} {t0 : Nat} {x y : Nat → Nat} {low high : Nat} (h : ll_V o k a0 F t0 x y low high 4) : ll_V o k a0 F t0 x y low high 1 :=
  fun i i' h1 h2 h3 h4 => h i i' h1 h2 (by omega) h4
theorem ll_plain {post : St2 → Prop} {F : Nat → Int32} {cn t0 low high : Nat} {x y : Nat → Nat} {st : Int32} (hc : cn ≤ 4) (hs : s < cn) (hh : high < 32) (hlh : low ≤ high)
    (hb : ∀ t, t < cn → (((st >>> (nI t &&& 31)) &&& 1) = 1 ↔ t = s)) (hK : ll_K (a3 s) (a4 s) t0 x y low high) (hV : ll_V (a2 s) (a5 s) a1 F t0 x y low high 1)
    (H : post (nI cn, r, g, ll_C a1 F (t0 + low) (t0 + (high + 1)), a2, a3, a4, a5, a6, a7, a8, a9)) :
    wpX_runPlain post (nI cn, r, g, a1, a2, a3, a4, a5, a6, a7, a8, a9) st (nI low) (nI high) := by
  unfold wpX_runPlain
  dsimp only
  refine pk_loop (fun n i m => wX_runPlain_3 post st (nI high) n (nI i) (nI cn) r g m a2 a3 a4 a5 a6 a7 a8 a9)
    (fun i m => low ≤ i ∧ m = ll_C a1 F (t0 + low) (t0 + i)) (high + 1) low a1 (by omega) ⟨Nat.le_refl _, (ll_C_0 _ _ _).symm⟩ ?_ ?_
  · intro n m h
    refine pk_lt high (high + 1) (fun _ => ?_) (fun z => absurd z (by omega))
    rw [h.2]
    exact H
  · intro n i m hi h hw
    obtain ⟨k1, k2, k3, k4, k5, k6⟩ := hK i (by omega) h.1 (by omega)
    refine pk_lt high i (fun z => absurd z (by omega)) (fun _ => ?_)
    refine pk_loop (fun n' t m => wX_runPlain_12 post (wX_runPlain_3 post st (nI high) n) st (nI high) (nI i) n' (nI t) (nI cn) r g m a2 a3 a4 a5 a6 a7 a8 a9)
      (fun t m => m = ll_C a1 F (t0 + low) (t0 + (if t ≤ s then i else i + 1))) cn 0 m (by omega) (by rw [if_pos (by omega)]; exact h.2) ?_ ?_
    · intro n' m' h'
      refine pk_le cn cn (fun _ => nm_r (nI_1 i) (hw m' ⟨by omega, ?_⟩)) (fun z => absurd z (by omega))
      rw [h', if_neg (by omega)]
    · intro n' t m' ht h' hw'
      refine pk_le cn t (fun z => absurd z (by omega)) (fun _ => br_c (fun e => ?_) (fun e => nm_r (nI_1 t) (hw' m' ?_)))
      · have et : t = s := (hb t ht).mp e
        subst et
        rw [if_pos (Nat.le_refl t)] at h'
        subst h'
        refine ll_result (by omega) k3 k4 k5 k6 (ll_store (by omega) k1 k2 ?_)
        refine nm_r (nI_1 t) (hw' _ ?_)
        rw [if_neg (show ¬ t + 1 ≤ t by omega), hV i i h.1 (Nat.le_refl i) (by omega) (by omega)]
        exact ll_C_up (by omega)
      · have et : ¬ t = s := fun z => e ((hb t ht).mpr z)
        rw [h']
        by_cases hts : t ≤ s
        · rw [if_pos hts, if_pos (show t + 1 ≤ s by omega)]
        · rw [if_neg hts, if_neg (show ¬ t + 1 ≤ s by omega)]
theorem ll_lanes {post : St2 → Prop} {F : Nat → Int32} {t0 low high : Nat} {x y : Nat → Nat} (hs : s < 4) (hh : high < 32) (hlh : low ≤ high)
    (hK : ll_K (a3 s) (a4 s) t0 x y low high) (hV : ll_V (a2 s) (a5 s) a1 F t0 x y low high 4)
    (H : ∀ m9 : Nat → Int32, post (c, r, g, ll_C a1 F (t0 + low) (t0 + (high + 1)), a2, a3, a4, a5, a6, a7, a8, m9)) :
    wpX_runInLanes post (c, r, g, a1, a2, a3, a4, a5, a6, a7, a8, a9) (nI s) (nI low) (nI high) := by
  unfold wpX_runInLanes
  dsimp only
  have key := loop_m (σ := Nat × (Nat → Int32) × (Nat → Int32)) (fun n u => wX_runInLanes_3 post (nI s) (nI high) n (nI u.1) c r g u.2.1 a2 a3 a4 a5 a6 a7 a8 u.2.2)
    (fun u => low ≤ u.1 ∧ u.1 ≤ high + 1 ∧ u.2.1 = ll_C a1 F (t0 + low) (t0 + u.1)) (fun u => high + 1 - u.1) ?_ (low, a1, a9) ⟨Nat.le_refl _, Nat.le_succ_of_le hlh, (ll_C_0 _ _ _).symm⟩
  · exact key
  · intro n u
    obtain ⟨i, m1, m9⟩ := u
    intro h hw
    have h1 : low ≤ i := h.1
    have h2 : i ≤ high + 1 := h.2.1
    have h3 : m1 = ll_C a1 F (t0 + low) (t0 + i) := h.2.2
    subst h3
    refine pk_lt high (i + 3) (fun _ => ?_) (fun hi => ?_) (hy := ?_)
    · refine pk_loop (fun n i m => wX_runInLanes_83 post (nI s) (nI high) n (nI i) c r g m a2 a3 a4 a5 a6 a7 a8 m9)
        (fun i m => low ≤ i ∧ m = ll_C a1 F (t0 + low) (t0 + i)) (high + 1) i _ h2 ⟨h1, rfl⟩ ?_ ?_
      · intro n m h
        refine pk_lt high (high + 1) (fun _ => ?_) (fun z => absurd z (by omega))
        rw [h.2]
        exact H m9
      · intro n i m hi h hw
        obtain ⟨k1, k2, k3, k4, k5, k6⟩ := hK i (by omega) h.1 (by omega)
        obtain ⟨g1, g2⟩ := h
        subst g2
        refine pk_lt high i (fun z => absurd z (by omega)) (fun _ => ?_)
        refine ll_result hs k3 k4 k5 k6 (ll_store hs k1 k2 (nm_r (nI_1 i) (hw _ ⟨by omega, ?_⟩)))
        rw [hV i i g1 (Nat.le_refl i) (by omega) (by omega)]
        exact ll_C_up (by omega)
    · refine pk_loop (fun n' k m => wX_runInLanes_16 post (wX_runInLanes_3 post (nI s) (nI high) n) (nI s) (nI high) (nI i) c r g n' (nI k) (ll_C a1 F (t0 + low) (t0 + i)) a2 a3 a4 a5 a6 a7 a8 m)
        (fun k m => ∀ q, q < k → m q = F (t0 + (i + q))) 4 0 m9 (by omega) (fun q hq => absurd hq (by omega)) ?_ ?_
      · intro n' m hm
        refine pk_le 4 4 (fun _ => ?_) (fun z => absurd z (by omega))
        refine pk_loop (fun n' k mm => wX_runInLanes_48 post (wX_runInLanes_3 post (nI s) (nI high) n) (nI s) (nI high) (nI i) n' (nI k) c r g mm a2 a3 a4 a5 a6 a7 a8 m)
          (fun k mm => mm = ll_C a1 F (t0 + low) (t0 + (i + k))) 4 0 _ (by omega) rfl ?_ ?_
        · intro n'' mm h'
          refine pk_le 4 4 (fun _ => nm_r (e' := nI (i + 4)) (nI_add i 4) ?_) (fun z => absurd z (by omega))
          exact hw (i + 4, mm, m) ⟨Nat.le_trans h1 (Nat.le_add_right i 4), show i + 4 ≤ high + 1 by omega, h'⟩ (show high + 1 - (i + 4) < high + 1 - i by omega)
        · intro n'' k mm hk h' hw'
          obtain ⟨k1, k2, k3, k4, k5, k6⟩ := hK (i + k) (by omega) (by omega) (by omega)
          subst h'
          refine pk_le 4 k (fun z => absurd z (by omega)) (fun _ => ⟨pk_in k 4 hk, ?_⟩)
          rw [nI_clamp (show k < 2 ^ 31 by omega), hm k hk, nI_add]
          refine ll_store hs k1 k2 (nm_r (nI_1 k) (hw' _ ?_))
          exact ll_C_up (by omega)
      · intro n' k m hk hm hw'
        obtain ⟨k1, k2, k3, k4, k5, k6⟩ := hK (i + k) (by omega) (by omega) (by omega)
        refine pk_le 4 k (fun z => absurd z (by omega)) (fun _ => ?_)
        rw [nI_add]
        refine ll_result hs k3 k4 k5 k6 ⟨pk_in k 4 hk, nm_e (nm_r (nI_1 k) (hw' _ (fun q hq => ?_)))⟩
        rw [nI_clamp (show k < 2 ^ 31 by omega)]
        by_cases eq : q = k
        · rw [eq, pk_us]
          exact hV i (i + k) h1 (by omega) (by omega) (by omega)
        · rw [pk_un eq]
          exact hm q (by omega)
    · show (nI i + nI 4) - nI 1 = nI (i + 3)
      rw [nI_add, pk_sub (by omega)]
      rfl
theorem ll_out_s {post : Int32 → Prop} {n : Nat} {x p : Int32} (hs : s < 4) (hp : ¬ (3 : Int32) ≤ p) (h1 : ll_O1 (a4 s) x p = true → post 1)
    (h0 : ll_O1 (a4 s) x p = false → wX_outside_2 post (nI s) x c r g a1 a2 a3 a4 a5 a6 a7 a8 a9 n (p + 1)) :
    wX_outside_2 post (nI s) x c r g a1 a2 a3 a4 a5 a6 a7 a8 a9 (n + 1) p := by
  refine br_f hp ?_
  unfold wpX_shiftOf
  dsimp only
  rw [nI_clamp (show s < 2 ^ 31 by omega)]
  unfold ll_O1 at h1 h0
  refine ⟨pk_in s 4 hs, nm_r (e' := x + ll_S (a4 s) p) rfl ?_⟩
  refine br_c (fun e => h1 (by rw [decide_eq_true e]; rfl)) (fun e => ?_)
  refine br_c (fun e2 => nm_e (h0 ?_)) (fun e2 => h1 ?_)
  · rw [decide_eq_false e, decide_eq_true e2]
    rfl
  · rw [decide_eq_false e, decide_eq_false e2]
    rfl
theorem ll_outside {post : Int32 → Prop} {x : Int32} (hs : s < 4) (H : post (ll_b (ll_O (a4 s) x))) :
    wpX_outside post (c, r, g, a1, a2, a3, a4, a5, a6, a7, a8, a9) (nI s) x := by
  unfold ll_O at H
  refine ⟨4, ll_out_s (p := 0) hs (by decide) (fun h => ?_) (fun h => ?_)⟩
  · rw [h] at H
    exact H
  · rw [h] at H
    refine ll_out_s (p := 1) hs (by decide) (fun h => ?_) (fun h => ?_)
    · rw [h] at H
      exact H
    · rw [h] at H
      refine ll_out_s (p := 2) hs (by decide) (fun h => ?_) (fun h => ?_)
      · rw [h] at H
        exact H
      · rw [h] at H
        exact br_t (by decide) H
/-- one group of one statement -/
theorem ll_group {post : Int32 → St2 → Prop} {F : Nat → Int32} {cn t0 low high n : Nat} {x y : Nat → Nat} {ft : Bool} (hc : cn ≤ 4) (hs : s < cn) (hh : high < 32) (hlh : low ≤ high)
    (h7 : a7 s = nI (2 ^ s)) (h8 : a8 s = ll_b ft)
    (hK : ll_K (a3 s) (a4 s) t0 x y low high) (hV : ll_V (a2 s) (a5 s) a1 F t0 x y low high (if ft = true then 4 else 1))
    (H : ∀ m9 : Nat → Int32, wX_run_73 post (nI low) (nI high) n (nI (s + 1)) (nI cn) r (nI cn) (ll_C a1 F (t0 + low) (t0 + (high + 1))) a2 a3 a4 a5 a6 a7 a8 m9) :
    wX_run_73 post (nI low) (nI high) (n + 1) (nI s) (nI cn) r (nI cn) a1 a2 a3 a4 a5 a6 a7 a8 a9 := by
  obtain ⟨p1, p2, p3, p4, p5, p6, p7⟩ := ll_pw s (by omega)
  refine pk_le cn s (fun z => absurd z (by omega)) (fun _ => ⟨pk_in s 4 (by omega), ?_⟩)
  rw [nI_clamp (show s < 2 ^ 31 by omega), h7, h8]
  refine ll_lowest (by omega) p5 p6 ⟨pk_in s 4 (by omega), ?_⟩
  cases ft
  · refine br_t rfl ⟨pk_in s 4 (by omega), ll_plain hc hs hh hlh ?_ hK hV (nm_r (nI_1 s) (H a9))⟩
    exact ll_bits s (by omega) cn (by omega)
  · exact br_f ll_b1 (ll_lanes (by omega) hh hlh hK hV (fun m9 => nm_r (nI_1 s) (H m9)))
/-- the checks ahead of a run -/
theorem ll_run25 {post : Int32 → St2 → Prop} {cn : Nat} {lo hi : Int32} (hc : cn ≤ 4) (hO : ∀ t, t < cn → ll_O (a4 t) lo = false ∧ ll_O (a4 t) hi = false)
    (h0 : ¬ lo < 0) (h1 : ¬ 32 ≤ lo) (h2 : ¬ hi < 0) (h3 : hi < 32)
    (H : (lo ≤ hi → wpX_plan (fun u => match u with | (k1, k2, k3, m1, m2, m3, m4, m5, m6, m7, m8, m9) => (∃ fu : Nat, wX_run_73 post lo hi fu 0 k1 k2 k3 m1 m2 m3 m4 m5 m6 m7 m8 m9)) (nI cn, r, g, a1, a2, a3, a4, a5, a6, a7, a8, a9))
      ∧ (¬ lo ≤ hi → post 0 (nI cn, r, g, a1, a2, a3, a4, a5, a6, a7, a8, a9))) :
    wpX_run post (nI cn, r, g, a1, a2, a3, a4, a5, a6, a7, a8, a9) lo hi := by
  unfold wpX_run
  dsimp only
  refine br_f h0 (br_f h1 (br_f h2 (br_t h3 ?_)))
  refine pk_loop (σ := Unit) (fun n i _ => wX_run_25 post lo hi (nI cn) r g a1 a2 a3 a4 a5 a6 a7 a8 a9 n (nI i)) (fun _ _ => True) cn 0 () (by omega) trivial ?_ ?_
  · intro n _ _
    exact pk_le cn cn (fun _ => H) (fun z => absurd z (by omega))
  · intro n i _ hi' _ hw
    refine pk_le cn i (fun z => absurd z (by omega)) (fun _ => ll_outside (by omega) ?_)
    rw [(hO i hi').1]
    refine br_t rfl (ll_outside (by omega) ?_)
    rw [(hO i hi').2]
    exact br_t rfl (nm_r (nI_1 i) (hw () trivial))
theorem ll_runBad {post : Int32 → St2 → Prop} {cn : Nat} {lo hi : Int32} (hc : cn ≤ 4) (h : 0 < cn) (hO : ll_O (a4 0) lo = true)
    (h0 : ¬ lo < 0) (h1 : ¬ 32 ≤ lo) (h2 : ¬ hi < 0) (h3 : hi < 32) (H : post (-2) (nI cn, r, g, a1, a2, a3, a4, a5, a6, a7, a8, a9)) :
    wpX_run post (nI cn, r, g, a1, a2, a3, a4, a5, a6, a7, a8, a9) lo hi := by
  unfold wpX_run
  dsimp only
  refine br_f h0 (br_f h1 (br_f h2 (br_t h3 ⟨1, ?_⟩)))
  refine pk_le cn 0 (fun z => absurd z (by omega)) (fun _ => ll_outside (s := 0) (by omega) ?_)
  rw [hO]
  exact br_f ll_b1 H
end
end
section
section
variable {c r g : Int32} {a1 a2 a3 a4 a5 a6 a7 a8 a9 : Nat → Int32} {s : Nat}
/-- a ramp's contents -/
def ll_rp (A : Nat) (f st : Int32) : Nat → Int32 := fun j => f + nI (j - A * 32) * st
theorem ll_ramp {post : Int32 → St2 → Prop} {A : Nat} {f st : Int32} (hA : A ≤ 2)
    (H : post 0 (c, r, g, ll_C a1 (ll_rp A f st) (A * 32) (A * 32 + 32), a2, a3, a4, a5, a6, a7, a8, a9)) :
    wpX_ramp post (c, r, g, a1, a2, a3, a4, a5, a6, a7, a8, a9) (nI A) f st := by
  unfold wpX_ramp wpX_badArray
  dsimp only
  refine br_f (nI_pos (by omega)) (pk_le A 2 (fun _ => br_t rfl ?_) (fun z => absurd z (by omega)))
  refine pk_loop (fun n i m => wX_ramp_12 post (nI A) f st c r g n (nI i) m a2 a3 a4 a5 a6 a7 a8 a9)
    (fun i m => m = ll_C a1 (ll_rp A f st) (A * 32) (A * 32 + i)) 32 0 a1 (by omega) (ll_C_0 _ _ _).symm ?_ ?_
  · intro n m h
    refine pk_le 32 32 (fun _ => ?_) (fun z => absurd z (by omega))
    rw [h]
    exact H
  · intro n i m hi h hw
    subst h
    refine pk_le 32 i (fun z => absurd z (by omega)) (fun _ => ?_)
    have e : nI A * 32 + nI i = nI (A * 32 + i) := by
      show nI A * nI 32 + nI i = nI (A * 32 + i)
      rw [pk_mul, nI_add]
    rw [e, nI_clamp (show A * 32 + i < 2 ^ 31 by omega)]
    refine ⟨pk_in (A * 32 + i) 96 (by omega), nm_e (nm_r (nI_1 i) (hw _ ?_))⟩
    have e2 : f + nI i * st = ll_rp A f st (A * 32 + i) := by
      unfold ll_rp
      rw [Nat.add_sub_cancel_left]
    rw [e2]
    exact ll_C_up (by omega)
theorem ll_stmt {post : Int32 → St2 → Prop} {cn : Nat} {o w sw k : Int32} (hc : cn < 4) (hA : ∀ p, p < 3 → ¬ ll_A w (nI p) < 0 ∧ ll_A w (nI p) ≤ 2)
    (hS : ∀ p, p < 3 → ¬ ll_S sw (nI p) < (-4) ∧ ll_S sw (nI p) ≤ 4) (ho : ¬ o < 0) (ho6 : o ≤ 6)
    (H : post (nI cn) (nI (cn + 1), 0, g, a1, upd a2 cn o, upd a3 cn w, upd a4 cn sw, upd a5 cn k, a6, a7, a8, a9)) :
    wpX_statement post (nI cn, r, g, a1, a2, a3, a4, a5, a6, a7, a8, a9) o w sw k := by
  unfold wpX_statement
  dsimp only
  refine pk_loop (σ := Unit) (fun n i _ => wX_statement_3 post o w sw k (nI cn) r g a1 a2 a3 a4 a5 a6 a7 a8 a9 n (nI i)) (fun _ _ => True) 3 0 () (by omega) trivial ?_ ?_
  · intro n _ _
    refine pk_le 3 3 (fun _ => ?_) (fun z => absurd z (by omega))
    refine pk_loop (σ := Unit) (fun n i _ => wX_statement_34 post o w sw k (nI cn) r g a1 a2 a3 a4 a5 a6 a7 a8 a9 n (nI i)) (fun _ _ => True) 3 0 () (by omega) trivial ?_ ?_
    · intro n _ _
      refine pk_le 3 3 (fun _ => br_f ho (br_t ho6 (pk_lt cn 4 (fun _ => ?_) (fun z => absurd z (by omega))))) (fun z => absurd z (by omega))
      rw [nI_clamp (show cn < 2 ^ 31 by omega)]
      refine ⟨pk_in cn 4 hc, nm_e ⟨pk_in cn 4 hc, nm_e ⟨pk_in cn 4 hc, nm_e ⟨pk_in cn 4 hc, nm_e (nm_r (nI_1 cn) ?_)⟩⟩⟩⟩
      rw [nI_pred]
      exact H
    · intro n i _ hi _ hw
      exact pk_le 3 i (fun z => absurd z (by omega)) (fun _ => br_f (hS i hi).1 (br_t (hS i hi).2 (br_t rfl (nm_r (nI_1 i) (hw () trivial)))))
  · intro n i _ hi _ hw
    exact pk_le 3 i (fun z => absurd z (by omega)) (fun _ => br_f (hA i hi).1 (br_t (hA i hi).2 (br_t rfl (nm_r (nI_1 i) (hw () trivial)))))
theorem ll_get {post : Int32 → Prop} {A j : Nat} (hA : A ≤ 2) (hj : j < 32) (H : post (a1 (A * 32 + j))) :
    wpX_get post (c, r, g, a1, a2, a3, a4, a5, a6, a7, a8, a9) (nI A) (nI j) := by
  unfold wpX_get wpX_badArray
  dsimp only
  refine br_f (nI_pos (by omega)) (pk_le A 2 (fun _ => br_t rfl ?_) (fun z => absurd z (by omega)))
  refine br_f (nI_pos (by omega)) (pk_lt j 32 (fun _ => ?_) (fun z => absurd z (by omega)))
  have e : nI A * 32 + nI j = nI (A * 32 + j) := by
    show nI A * nI 32 + nI j = nI (A * 32 + j)
    rw [pk_mul, nI_add]
  rw [e, nI_clamp (show A * 32 + j < 2 ^ 31 by omega)]
  exact ⟨pk_in (A * 32 + j) 96 (by omega), H⟩
def ll_ex (a : Nat → Int32) : Nat → Int32 := upd (upd a 0 (a 1)) 1 (a 0)
theorem ll_exch {post : Int32 → St2 → Prop} (H : post 0 (nI 2, 0, g, a1, ll_ex a2, ll_ex a3, ll_ex a4, ll_ex a5, a6, a7, a8, a9)) :
    wpX_exchange post (nI 2, r, g, a1, a2, a3, a4, a5, a6, a7, a8, a9) (nI 0) (nI 1) := by
  unfold wpX_exchange wpX_noStatement
  dsimp only
  refine br_f (by decide) (br_t (by decide) (br_t rfl (br_f (by decide) (br_t (by decide) (br_t rfl ?_)))))
  rw [nI_clamp (show 0 < 2 ^ 31 by omega), nI_clamp (show 1 < 2 ^ 31 by omega)]
  have i0 : vp_in (nI 0) 4 := pk_in 0 4 (by omega)
  have i1 : vp_in (nI 1) 4 := pk_in 1 4 (by omega)
  exact ⟨i0, nm_e ⟨i1, i0, nm_e ⟨i1, nm_e ⟨i0, nm_e ⟨i1, i0, nm_e ⟨i1, nm_e ⟨i0, nm_e ⟨i1, i0, nm_e ⟨i1, nm_e ⟨i0, nm_e ⟨i1, i0, nm_e ⟨i1, nm_e H⟩⟩⟩⟩⟩⟩⟩⟩⟩⟩⟩⟩
/-- the words of a statement -/
def ll_w (a2 a3 a4 : Nat → Int32) (s : Nat) (o w sw : Int32) : Prop := a2 s = o ∧ a3 s = w ∧ a4 s = sw
theorem ll_mpT {post : Int32 → Prop} {cn d s t : Nat} {oa wa sa ob wb sb : Int32} (h1 : ll_w a2 a3 a4 s oa wa sa) (h2 : ll_w a2 a3 a4 t ob wb sb)
    (hP : ll_Pr (decide (s < t)) oa wa sa ob wb sb (nI d) = true) (hs : s < cn) (ht : t < cn) (hc : cn ≤ 4) (hd : d ≤ 8) (H : post 1) :
    wpX_mustPrecede post (nI cn, r, g, a1, a2, a3, a4, a5, a6, a7, a8, a9) (nI s) (nI t) (nI d) := by
  refine ll_mp hs ht hc hd ?_
  rw [h1.1, h1.2.1, h1.2.2, h2.1, h2.2.1, h2.2.2, hP]
  exact H
theorem ll_mpF {post : Int32 → Prop} {cn d s t : Nat} {oa wa sa ob wb sb : Int32} (h1 : ll_w a2 a3 a4 s oa wa sa) (h2 : ll_w a2 a3 a4 t ob wb sb)
    (hP : ll_Pr (decide (s < t)) oa wa sa ob wb sb (nI d) = false) (hs : s < cn) (ht : t < cn) (hc : cn ≤ 4) (hd : d ≤ 8) (H : post 0) :
    wpX_mustPrecede post (nI cn, r, g, a1, a2, a3, a4, a5, a6, a7, a8, a9) (nI s) (nI t) (nI d) := by
  refine ll_mp hs ht hc hd ?_
  rw [h1.1, h1.2.1, h1.2.2, h2.1, h2.2.1, h2.2.2, hP]
  exact H
theorem ll_cl1 : ll_cl (fun _ => 1) 1 := by
  unfold ll_cl
  decide +kernel
theorem ll_ok1 : ll_OK (fun _ => 1) 1 := by
  unfold ll_OK
  decide +kernel
theorem ll_cl2 : ll_cl (fun j => if j = 0 then 3 else 2) 2 := by
  unfold ll_cl
  decide +kernel
theorem ll_ok2 : ll_OK (fun j => if j = 0 then 3 else 2) 2 := by
  unfold ll_OK
  decide +kernel
theorem ll_row1 (Q : Nat → Nat → Bool) : ∀ j, j < 1 → ll_row Q j 1 = 1 := by
  intro j hj
  have e : j = 0 := by omega
  subst e
  unfold ll_row ll_row
  cases Q 0 0 <;> decide
theorem ll_row2 (Q : Nat → Nat → Bool) (h01 : Q 0 1 = true) (h10 : Q 1 0 = false) : ∀ j, j < 2 → ll_row Q j 2 = if j = 0 then 3 else 2 := by
  intro j hj
  have e : j = 0 ∨ j = 1 := by omega
  rcases e with e | e
  · subst e
    unfold ll_row ll_row ll_row
    rw [h01]
    cases Q 0 0 <;> decide
  · subst e
    unfold ll_row ll_row ll_row
    rw [h10]
    cases Q 1 1 <;> decide
theorem ll_run1 {post : Int32 → St2 → Prop} {F : Nat → Int32} {t0 low high : Nat} {x y : Nat → Nat} {o w sw k : Int32} {ft : Bool} (hh : high < 32) (hlh : low ≤ high)
    (hw : ll_w a2 a3 a4 0 o w sw) (hk : a5 0 = k) (hft : ll_Ft o w sw = ft)
    (hO : ll_O sw (nI low) = false ∧ ll_O sw (nI high) = false) (hK : ll_K w sw t0 x y low high) (hV : ll_V o k a1 F t0 x y low high (if ft = true then 4 else 1))
    (H : ∀ (r g : Int32) (m6 m7 m8 m9 : Nat → Int32), post (nI 1 * ((nI high - nI low) + 1)) (nI 1, r, g, ll_C a1 F (t0 + low) (t0 + (high + 1)), a2, a3, a4, a5, m6, m7, m8, m9)) :
    wpX_run post (nI 1, 0, g, a1, a2, a3, a4, a5, a6, a7, a8, a9) (nI low) (nI high) := by
  obtain ⟨w1, w2, w3⟩ := hw
  subst w1 w2 w3 hk hft
  refine ll_run25 (by omega) (fun t ht => ?_) (nI_pos (by omega)) (nI_ge (b := 32) (by omega) (by decide)) (nI_pos (by omega)) (nI_lt (b := 32) (by omega) (by decide))
    (pk_le low high (fun _ => ll_plan (by omega) ll_cl1 (ll_row1 _) ll_ok1 (fun m6 m7 m8 h7 h8 => ⟨2, ?_⟩)) (fun z => absurd z (by omega)))
  · have e : t = 0 := by omega
    subst e
    exact hO
  · exact ll_group (s := 0) (by omega) (by omega) hh hlh (h7 0 (by omega)) (h8 0 (by omega)) hK hV (fun m9 => pk_le 1 1 (fun _ => H _ _ _ _ _ _) (fun z => absurd z (by omega)))
theorem ll_run2 {post : Int32 → St2 → Prop} {F G : Nat → Int32} {t0 t1 low high : Nat} {x y x' y' : Nat → Nat} {o w sw k o' w' sw' k' : Int32} {ft ft' : Bool} (hh : high < 32) (hlh : low ≤ high)
    (hw : ll_w a2 a3 a4 0 o w sw) (hk : a5 0 = k) (hft : ll_Ft o w sw = ft) (hw' : ll_w a2 a3 a4 1 o' w' sw') (hk' : a5 1 = k') (hft' : ll_Ft o' w' sw' = ft')
    (hP : ll_PA true o w sw o' w' sw' = true) (hP' : ll_PA false o' w' sw' o w sw = false)
    (hO : ll_O sw (nI low) = false ∧ ll_O sw (nI high) = false) (hO' : ll_O sw' (nI low) = false ∧ ll_O sw' (nI high) = false)
    (hK : ll_K w sw t0 x y low high) (hV : ll_V o k a1 F t0 x y low high (if ft = true then 4 else 1))
    (hK' : ll_K w' sw' t1 x' y' low high) (hV' : ll_V o' k' (ll_C a1 F (t0 + low) (t0 + (high + 1))) G t1 x' y' low high (if ft' = true then 4 else 1))
    (H : ∀ (r g : Int32) (m6 m7 m8 m9 : Nat → Int32), post (nI 2 * ((nI high - nI low) + 1)) (nI 2, r, g, ll_C (ll_C a1 F (t0 + low) (t0 + (high + 1))) G (t1 + low) (t1 + (high + 1)), a2, a3, a4, a5, m6, m7, m8, m9)) :
    wpX_run post (nI 2, 0, g, a1, a2, a3, a4, a5, a6, a7, a8, a9) (nI low) (nI high) := by
  obtain ⟨w1, w2, w3⟩ := hw
  subst w1 w2 w3 hk hft
  obtain ⟨w1, w2, w3⟩ := hw'
  subst w1 w2 w3 hk' hft'
  refine ll_run25 (by omega) (fun t ht => ?_) (nI_pos (by omega)) (nI_ge (b := 32) (by omega) (by decide)) (nI_pos (by omega)) (nI_lt (b := 32) (by omega) (by decide))
    (pk_le low high (fun _ => ll_plan (by omega) ll_cl2 (ll_row2 _ hP hP') ll_ok2 (fun m6 m7 m8 h7 h8 => ⟨3, ?_⟩)) (fun z => absurd z (by omega)))
  · have e : t = 0 ∨ t = 1 := by omega
    rcases e with e | e
    · subst e
      exact hO
    · subst e
      exact hO'
  · refine ll_group (s := 0) (by omega) (by omega) hh hlh (h7 0 (by omega)) (h8 0 (by omega)) hK hV (fun m9 => ?_)
    exact ll_group (s := 1) (by omega) (by omega) hh hlh (h7 1 (by omega)) (h8 1 (by omega)) hK' hV' (fun m9 => pk_le 2 2 (fun _ => H _ _ _ _ _ _) (fun z => absurd z (by omega)))
end
end
section
section
/-- phase 1: the coefficient of step in cell i -/
def ll_T (d : Nat) : Nat → Nat → Nat
  | 0, _ => 0
  | n + 1, i => if 4 ≤ i then i + ll_T d n (i - d) else 0
/-- the law's own sum, its coefficient -/
def ll_U (d h : Int32) : Nat → Int32
  | 0 => 0
  | i + 1 => if h - (7 - nI i) * d < 4 then ll_U d h i else ll_U d h i + (h - (7 - nI i) * d)
/-- phase 1: the packed shifts -/
def ll_sw (d : Nat) : Int32 := (4 + (16 * (4 - nI d))) + 1024
theorem ll_T_s : ∀ d, d < 5 → 0 < d → ∀ i, i < 32 → 4 ≤ i → ll_T d 32 i = i + ll_T d 32 (i - d) := by decide +kernel
theorem ll_T_lo {d i : Nat} (h : i < 4) : ll_T d 32 i = 0 := if_neg (by omega)
theorem ll_U_T : ∀ d, d < 5 → 0 < d → ∀ h, h < 28 → 8 ≤ h → ¬ 8 < (nI h - 4) / nI d + 1 → ll_U (nI d) (nI h) 8 = nI (ll_T d 32 h) := by decide +kernel
theorem ll_sK0 : ∀ d, d < 5 → 0 < d → ∀ i, i < 32 → 4 ≤ i → ll_I 16 (ll_sw d) 0 (nI i) = nI (0 + i) := by decide +kernel
theorem ll_sK1 : ∀ d, d < 5 → 0 < d → ∀ i, i < 32 → 4 ≤ i → ll_I 16 (ll_sw d) 1 (nI i) = nI (i - d) := by decide +kernel
theorem ll_sK2 : ∀ d, d < 5 → 0 < d → ∀ i, i < 32 → 4 ≤ i → ll_I 16 (ll_sw d) 2 (nI i) = nI (32 + i) := by decide +kernel
theorem ll_sK {d high : Nat} (hd : d < 5) (hd0 : 0 < d) : ll_K 16 (ll_sw d) 0 (fun i => i - d) (fun i => 32 + i) 4 high :=
  fun i hi h1 _ => ⟨ll_sK0 d hd hd0 i hi h1, by omega, ll_sK1 d hd hd0 i hi h1, show i - d < 96 by omega, ll_sK2 d hd hd0 i hi h1, show 32 + i < 96 by omega⟩
/-- phase 1: the cells at the start -/
def ll_b0 (f st : Int32) : Nat → Int32 := ll_C (ll_C (fun _ => 0) (ll_rp 0 f 0) (0 * 32) (0 * 32 + 32)) (ll_rp 1 0 st) (1 * 32) (1 * 32 + 32)
theorem ll_b0_lo {f st : Int32} : ∀ j, j < 32 → ll_b0 f st j = f := by
  intro j hj
  unfold ll_b0
  rw [ll_C_out (by omega), ll_C_in (by omega) (by omega)]
  unfold ll_rp
  grind
theorem ll_b0_hi {f st : Int32} : ∀ j, j < 32 → ll_b0 f st (32 + j) = nI j * st := by
  intro j hj
  unfold ll_b0
  rw [ll_C_in (by omega) (by omega)]
  unfold ll_rp
  rw [show 32 + j - 1 * 32 = j by omega]
  grind
theorem ll_sO : ∀ d, d < 5 → 0 < d → ∀ h, h < 28 → 4 ≤ h → ll_O (ll_sw d) (nI h) = false := by decide +kernel
theorem ll_sF : ∀ d, d < 5 → 0 < d → ll_Ft 0 16 (ll_sw d) = decide (d = 4) := by decide +kernel
theorem ll_sA : ∀ p, p < 3 → ¬ ll_A 16 (nI p) < 0 ∧ ll_A 16 (nI p) ≤ 2 := by decide +kernel
theorem ll_sS : ∀ d, d < 5 → 0 < d → ∀ p, p < 3 → ¬ ll_S (ll_sw d) (nI p) < (-4) ∧ ll_S (ll_sw d) (nI p) ≤ 4 := by decide +kernel
theorem ll_sP : ∀ d, d < 5 → 0 < d → ll_Pr (decide (0 < 0)) 0 16 (ll_sw d) 0 16 (ll_sw d) (nI d) = true ∧ ll_Pr (decide (0 < 0)) 0 16 (ll_sw d) 0 16 (ll_sw d) (nI (d + 1)) = false
    ∧ ll_Pr (decide (0 < 0)) 0 16 (ll_sw d) 0 16 (ll_sw d) (nI 0) = false := by decide +kernel
/-- phase 1: the cells in the end -/
def ll_F1 (d : Nat) (f st : Int32) : Nat → Int32 := fun j => f + nI (ll_T d 32 j) * st
theorem ll_V1 {d high span : Nat} {f st k : Int32} {a0 : Nat → Int32} (hd : d < 5) (hd0 : 0 < d) (hh : high < 32) (hsp : span ≤ d)
    (h0 : ∀ j, j < 32 → a0 j = f) (h1 : ∀ j, j < 32 → a0 (32 + j) = nI j * st) :
    ll_V 0 k a0 (ll_F1 d f st) 0 (fun i => i - d) (fun i => 32 + i) 4 high span := by
  intro i i' h2 h3 h4 h5
  show ll_C a0 (ll_F1 d f st) (0 + 4) (0 + i) (i' - d) + ll_C a0 (ll_F1 d f st) (0 + 4) (0 + i) (32 + i') = ll_F1 d f st (0 + i')
  rw [ll_C_out (j := 32 + i') (by omega), h1 i' (by omega), Nat.zero_add i']
  have e : ll_C a0 (ll_F1 d f st) (0 + 4) (0 + i) (i' - d) = ll_F1 d f st (i' - d) := by
    by_cases z : 4 ≤ i' - d
    · exact ll_C_in (by omega) (by omega)
    · rw [ll_C_out (by omega), h0 (i' - d) (by omega)]
      unfold ll_F1
      rw [ll_T_lo (by omega), nI_0]
      grind
  rw [e]
  unfold ll_F1
  rw [ll_T_s d hd hd0 i' (by omega) (by omega), ← nI_add]
  grind
/-- phases 2 and 3: the two statements' places and values -/
theorem ll_KA : ll_K 5 69 33 (fun i => 32 + i) (fun i => i - 4) 10 20 := by
  unfold ll_K
  decide +kernel
theorem ll_KB : ll_K 6 84 64 (fun i => 33 + i) (fun i => i - 4) 10 20 := by
  unfold ll_K
  decide +kernel
def ll_FA (f st k : Int32) : Nat → Int32 := fun j => (f + 10 * st) + nI (j - 42) * k
def ll_FB (b : Nat → Int32) : Nat → Int32 := fun j => b (j - 31) * 3
theorem ll_VA {f st k : Int32} {b : Nat → Int32} (hb : b 42 = f + 10 * st) : ll_V 4 k b (ll_FA f st k) 33 (fun i => 32 + i) (fun i => i - 4) 10 20 1 := by
  intro i i' h2 h3 h4 h5
  have ei : i' = i := by omega
  subst ei
  show ll_C b (ll_FA f st k) (33 + 10) (33 + i') (32 + i') + k = ll_FA f st k (33 + i')
  have e : ll_C b (ll_FA f st k) (33 + 10) (33 + i') (32 + i') = ll_FA f st k (32 + i') := by
    by_cases z : i' = 10
    · subst z
      rw [ll_C_out (by omega)]
      show b 42 = (f + 10 * st) + nI 0 * k
      rw [hb, nI_0]
      grind
    · exact ll_C_in (by omega) (by omega)
  rw [e]
  unfold ll_FA
  rw [show 33 + i' - 42 = (32 + i' - 42) + 1 by omega, nI_succ]
  grind
theorem ll_VB {b : Nat → Int32} : ll_V 6 3 b (ll_FB b) 64 (fun i => 33 + i) (fun i => i - 4) 10 20 4 := by
  intro i i' h2 h3 h4 h5
  show ll_C b (ll_FB b) (64 + 10) (64 + i) (33 + i') * 3 = ll_FB b (64 + i')
  rw [ll_C_out (by omega)]
  unfold ll_FB
  rw [show 64 + i' - 31 = 33 + i' by omega]
theorem ll_fA : ll_Ft 4 5 69 = false := by decide +kernel
theorem ll_fB : ll_Ft 6 6 84 = true := by decide +kernel
theorem ll_AB : ll_PA true 4 5 69 6 6 84 = true ∧ ll_PA false 6 6 84 4 5 69 = false := by decide +kernel
theorem ll_BA : ll_PA true 6 6 84 4 5 69 = true ∧ ll_PA false 4 5 69 6 6 84 = false := by decide +kernel
theorem ll_OA : ll_O 69 (nI 10) = false ∧ ll_O 69 (nI 20) = false := by decide +kernel
theorem ll_OB : ll_O 84 (nI 10) = false ∧ ll_O 84 (nI 20) = false := by decide +kernel
theorem ll_OB31 : ll_O 84 31 = true := by decide +kernel
theorem ll_A5 : ∀ p, p < 3 → ¬ ll_A 5 (nI p) < 0 ∧ ll_A 5 (nI p) ≤ 2 := by decide +kernel
theorem ll_A6 : ∀ p, p < 3 → ¬ ll_A 6 (nI p) < 0 ∧ ll_A 6 (nI p) ≤ 2 := by decide +kernel
theorem ll_S69 : ∀ p, p < 3 → ¬ ll_S 69 (nI p) < (-4) ∧ ll_S 69 (nI p) ≤ 4 := by decide +kernel
theorem ll_S84 : ∀ p, p < 3 → ¬ ll_S 84 (nI p) < (-4) ∧ ll_S 84 (nI p) ≤ 4 := by decide +kernel
theorem ll_P1 : ll_Pr (decide (0 < 1)) 4 5 69 6 6 84 (nI 0) = true ∧ ll_Pr (decide (0 < 0)) 4 5 69 4 5 69 (nI 1) = true ∧ ll_Pr (decide (1 < 0)) 6 6 84 4 5 69 (nI 1) = false
    ∧ ll_Pr (decide (1 < 0)) 6 6 84 4 5 69 (nI 0) = false ∧ ll_Pr (decide (0 < 1)) 6 6 84 4 5 69 (nI 0) = true ∧ ll_Pr (decide (1 < 0)) 4 5 69 6 6 84 (nI 0) = false := by decide +kernel
variable {post : Int32 → St0 → Prop} {mc ms kc ks : Nat} {f st k : Int32} {c r g : Int32} {a1 a2 a3 a4 a5 a6 a7 a8 a9 : Nat → Int32} {d high : Nat}
theorem ll_228 (hp : post 1 ()) (hh : high < 28) (h3 : a1 3 = f) (hh1 : a1 (high + 1) = f) :
    wL_lawOf_228 post mc ms f st k (nI high) kc ks c r g a1 a2 a3 a4 a5 a6 a7 a8 a9 := by
  unfold wL_lawOf_228
  refine ll_get (A := 0) (j := 3) (by omega) (by omega) (br_t (by rw [← h3]) ?_)
  rw [nI_1 high]
  refine ll_get (A := 0) (j := high + 1) (by omega) (by omega) (br_t (by rw [Nat.zero_mul, Nat.zero_add, hh1]) ?_)
  refine ll_ramp (A := 2) (by omega) ?_
  refine ll_ramp (A := 1) (by omega) ?_
  refine ll_stmt (cn := 0) (by omega) ll_A5 ll_S69 (by decide) (by decide) ?_
  refine ll_stmt (cn := 1) (by omega) ll_A6 ll_S84 (by decide) (by decide) ?_
  have w0 : ll_w (upd (upd a2 0 4) 1 6) (upd (upd a3 0 5) 1 6) (upd (upd a4 0 69) 1 84) 0 4 5 69 := ⟨rfl, rfl, rfl⟩
  have w1 : ll_w (upd (upd a2 0 4) 1 6) (upd (upd a3 0 5) 1 6) (upd (upd a4 0 69) 1 84) 1 6 6 84 := ⟨rfl, rfl, rfl⟩
  refine ll_mpT (cn := 2) (d := 0) (s := 0) (t := 1) w0 w1 ll_P1.1 (by omega) (by omega) (by omega) (by omega) (br_f (by decide) ?_)
  refine ll_mpT (cn := 2) (d := 1) (s := 0) (t := 0) w0 w0 ll_P1.2.1 (by omega) (by omega) (by omega) (by omega) (br_f (by decide) ?_)
  refine ll_mpF (cn := 2) (d := 1) (s := 1) (t := 0) w1 w0 ll_P1.2.2.1 (by omega) (by omega) (by omega) (by omega) (br_t rfl ?_)
  refine ll_mpF (cn := 2) (d := 0) (s := 1) (t := 0) w1 w0 ll_P1.2.2.2.1 (by omega) (by omega) (by omega) (by omega) (br_t rfl ?_)
  refine ll_run2 (low := 10) (high := 20) (by omega) (by omega) w0 (k := k) rfl ll_fA w1 (k' := 3) rfl ll_fB ll_AB.1 ll_AB.2 ll_OA ll_OB ll_KA (ll_VA (f := f) (st := st) ?_) ll_KB ll_VB (fun r1 g1 m6 m7 m8 m9 => br_t (by decide) ?_)
  · rfl
  refine ll_get (A := 1) (j := 21) (by omega) (by omega) (br_t rfl ?_)
  refine ll_get (A := 2) (j := 15) (by omega) (by omega) (br_t (Int32.mul_comm _ _) ?_)
  refine ll_get (A := 1) (j := 22) (by omega) (by omega) (br_t rfl ?_)
  refine ll_ramp (A := 1) (by omega) ?_
  refine ll_exch ?_
  have v0 : ll_w (ll_ex (upd (upd a2 0 4) 1 6)) (ll_ex (upd (upd a3 0 5) 1 6)) (ll_ex (upd (upd a4 0 69) 1 84)) 0 6 6 84 := ⟨rfl, rfl, rfl⟩
  have v1 : ll_w (ll_ex (upd (upd a2 0 4) 1 6)) (ll_ex (upd (upd a3 0 5) 1 6)) (ll_ex (upd (upd a4 0 69) 1 84)) 1 4 5 69 := ⟨rfl, rfl, rfl⟩
  refine ll_mpT (cn := 2) (d := 0) (s := 0) (t := 1) v0 v1 ll_P1.2.2.2.2.1 (by omega) (by omega) (by omega) (by omega) (br_t rfl ?_)
  refine ll_mpF (cn := 2) (d := 0) (s := 1) (t := 0) v1 v0 ll_P1.2.2.2.2.2 (by omega) (by omega) (by omega) (by omega) (br_t rfl ?_)
  refine ll_run2 (low := 10) (high := 20) (by omega) (by omega) v0 (k := 3) rfl ll_fB v1 (k' := k) rfl ll_fA ll_BA.1 ll_BA.2 ll_OB ll_OA ll_KB ll_VB ll_KA (ll_VA (f := f) (st := st) ?_) (fun r2 g2 n6 n7 n8 n9 => br_t (by decide) ?_)
  · rfl
  refine ll_get (A := 2) (j := 15) (by omega) (by omega) (br_t (Int32.mul_comm _ _) ?_)
  refine ll_get (A := 1) (j := 21) (by omega) (by omega) (br_t rfl ?_)
  refine br_t rfl ?_
  refine ll_run25 (cn := 2) (lo := 20) (hi := 10) (by omega) (fun t ht => ?_) (by decide) (by decide) (by decide) (by decide) (br_f (by decide) (br_t rfl ?_))
  · have e : t = 0 ∨ t = 1 := by omega
    rcases e with e | e
    · subst e
      exact ⟨ll_OB.2, ll_OB.1⟩
    · subst e
      exact ⟨ll_OA.2, ll_OA.1⟩
  exact ll_runBad (cn := 2) (lo := 31) (hi := 31) (by omega) (by omega) ll_OB31 (by decide) (by decide) (by decide) (by decide) (br_t rfl hp)
theorem ll_151 (hp : post 1 ()) (hd : d < 5) (hd0 : 0 < d) (hh : high < 28) (hh8 : 8 ≤ high) (h3 : a1 3 = f) (hh1 : a1 (high + 1) = f) (hv : a1 high = ll_F1 d f st high) :
    ∃ n, wL_lawOf_151 post mc ms f st k (nI d) (nI high) kc ks c r g a1 a2 a3 a4 a5 a6 a7 a8 a9 n f 0 := by
  refine pk_loop (fun n i x => wL_lawOf_151 post mc ms f st k (nI d) (nI high) kc ks c r g a1 a2 a3 a4 a5 a6 a7 a8 a9 n x (nI i))
    (fun i x => x = f + ll_U (nI d) (nI high) i * st) 8 0 f (by omega) ?_ ?_ ?_
  · show f = f + 0 * st
    grind
  · intro n x h
    refine pk_le 8 8 (fun _ => ⟨nI_ne0 hd0 (by omega), nm_e ?_⟩) (fun z => absurd z (by omega))
    refine br_c (fun _ => ll_228 hp hh h3 hh1) (fun e => ll_get (A := 0) (by omega) (by omega) (br_t ?_ (ll_228 hp hh h3 hh1)))
    rw [h, ll_U_T d hd hd0 high hh hh8 e, Nat.zero_mul, Nat.zero_add, hv]
    rfl
  · intro n i x hi h hw
    refine pk_le 8 i (fun z => absurd z (by omega)) (fun _ => nm_e (br_c (fun e => nm_r (nI_1 i) (hw _ ?_)) (fun e => nm_e (nm_r (nI_1 i) (hw _ ?_)))))
    · rw [h]
      show _ = f + (if nI high - (7 - nI i) * nI d < 4 then ll_U (nI d) (nI high) i else ll_U (nI d) (nI high) i + (nI high - (7 - nI i) * nI d)) * st
      rw [if_pos e]
    · rw [h]
      show _ = f + (if nI high - (7 - nI i) * nI d < 4 then ll_U (nI d) (nI high) i else ll_U (nI d) (nI high) i + (nI high - (7 - nI i) * nI d)) * st
      rw [if_neg e]
      grind
theorem ll_law {n : Int32} (hp : post 1 ()) : wpL_lawOf post 90 1424 () f st n k := by
  obtain ⟨j, hj, ej⟩ := pk_andE n (m := 3) 2 (by decide)
  obtain ⟨m, hm, em⟩ := pk_andE (n >>> ((2 : Int32) &&& 31)) (m := 255) 8 (by decide)
  unfold wpL_lawOf
  refine ⟨by omega, by omega, 89, 1412, by omega, by omega, ?_⟩
  unfold wpX_init
  dsimp only
  refine ⟨by omega, by omega, by omega, by omega, by omega, by omega, by omega, by omega, by omega, by omega, by omega, by omega, by omega, by omega, by omega, by omega, by omega, by omega, ?_⟩
  rw [ej, em]
  refine nm_r (e' := nI (1 + j)) (nI_add 1 j) ⟨by decide, nm_r (e' := nI (8 + m % 20)) ?_ ?_⟩
  · show nI 8 + (nI m - nI m / nI 20 * nI 20) = _
    rw [pk_rem (by omega) (by omega) (by omega), nI_add]
  have hd : 1 + j < 5 := by omega
  have hd0 : 0 < 1 + j := by omega
  have hh : 8 + m % 20 < 28 := by omega
  have hh8 : 8 ≤ 8 + m % 20 := by omega
  revert hd hd0 hh hh8
  generalize 1 + j = d
  generalize 8 + m % 20 = high
  intro hd hd0 hh hh8
  obtain ⟨p1, p2, p3⟩ := ll_sP d hd hd0
  refine ll_ramp (A := 0) (by omega) ?_
  refine ll_ramp (A := 1) (by omega) ?_
  refine ll_stmt (cn := 0) (sw := ll_sw d) (by omega) ll_sA (ll_sS d hd hd0) (by decide) (by decide) (br_t rfl ?_)
  have w0 : ll_w (upd (fun _ => 0) 0 0) (upd (fun _ => 0) 0 16) (upd (fun _ => 0) 0 (ll_sw d)) 0 0 16 (ll_sw d) := ⟨rfl, rfl, rfl⟩
  refine ll_mpT (cn := 1) (s := 0) (t := 0) w0 w0 p1 (by omega) (by omega) (by omega) (by omega) (br_f (by decide) ?_)
  rw [nI_1 d]
  refine ll_mpF (cn := 1) (s := 0) (t := 0) w0 w0 p2 (by omega) (by omega) (by omega) (by omega) (br_t rfl ?_)
  refine ll_mpF (cn := 1) (d := 0) (s := 0) (t := 0) w0 w0 p3 (by omega) (by omega) (by omega) (by omega) (br_t rfl ?_)
  refine ll_mpN (cn := 1) (s := 0) (t := 1) (by omega) (by omega) (by omega) (by omega) (br_t rfl ?_)
  refine ll_run1 (a1 := ll_b0 f st) (low := 4) (high := high) (F := ll_F1 d f st) (t0 := 0) (x := fun i => i - d) (y := fun i => 32 + i) (k := 9) (by omega) (by omega) w0 rfl (ll_sF d hd hd0)
    ⟨ll_sO d hd hd0 4 (by omega) (by omega), ll_sO d hd hd0 high hh (by omega)⟩ (ll_sK hd hd0) (ll_V1 hd hd0 (by omega) ?_ ll_b0_lo ll_b0_hi) (fun r1 g1 m6 m7 m8 m9 => br_t ?_ ?_)
  · by_cases e : d = 4
    · rw [decide_eq_true e, if_pos rfl]
      omega
    · rw [decide_eq_false e, if_neg Bool.false_ne_true]
      omega
  · show 1 * ((nI high - 4) + 1) = nI high - 3
    grind
  refine ll_151 (a1 := ll_C (ll_b0 f st) (ll_F1 d f st) (0 + 4) (0 + (high + 1))) hp hd hd0 hh hh8 ?_ ?_ ?_
  · rw [ll_C_out (by omega), ll_b0_lo _ (by omega)]
  · rw [ll_C_out (by omega), ll_b0_lo _ (by omega)]
  · exact ll_C_in (by omega) (by omega)
theorem ll_cell {post : Int32 → Prop} {L : Nat} {xs : Nat → Int32} {p : Nat} (hL : L ≤ 4) (hp : p < 4) (H : ∀ x, post x) : wpL_cellAt post L xs () (nI p) := by
  unfold wpL_cellAt
  exact pk_le L p (fun _ => H _) (fun z => ⟨pk_in p L z, H _⟩)
end
theorem i_vc (xs : Nat → Int32) (L : Nat) (hL : L ≤ 4) : wpL_law (fun r => r = 1) L xs := by
  unfold wpL_law
  refine ll_cell (p := 0) hL (by omega) (fun f => ll_cell (p := 1) hL (by omega) (fun st => ll_cell (p := 2) hL (by omega) (fun n => ll_cell (p := 3) hL (by omega) (fun k => ?_))))
  exact ⟨90, 1424, by omega, by omega, ll_law rfl⟩
end
