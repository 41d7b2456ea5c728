section
/-! pure rows: stores (pasted from the kit's PURE-ROWS), 'any' and 'count' below a bound, the match of a suppression with a finding -/
theorem pk_us {f : Nat → Int32} {k : Nat} {x : Int32} : upd f k x k = x := if_pos rfl
theorem pk_un {f : Nat → Int32} {k j : Nat} {x : Int32} (h : j ≠ k) : upd f k x j = f j := if_neg h
theorem pk_uLs {f : Nat → Int64} {k : Nat} {x : Int64} : vp_updL f k x k = x := if_pos rfl
theorem pk_uLn {f : Nat → Int64} {k j : Nat} {x : Int64} (h : j ≠ k) : vp_updL f k x j = f j := if_neg h
theorem pk_sub {a b : Nat} (h : b ≤ a) : nI a - nI b = nI (a - b) := by
  obtain ⟨c, rfl⟩ : ∃ c, a = c + b := ⟨a - b, by omega⟩
  rw [← nI_add, Int32.add_sub_cancel, Nat.add_sub_cancel]
/-- does p hold somewhere below n -/
def ep_any (p : Nat → Bool) : Nat → Bool
  | 0 => false
  | n + 1 => ep_any p n || p n
/-- how often p holds below n -/
def ep_cnt (p : Nat → Bool) : Nat → Nat
  | 0 => 0
  | n + 1 => ep_cnt p n + (p n).toNat
/-- a boolean as the machine's int -/
def ep_b (b : Bool) : Int32 := cond b 1 0
theorem ep_b1 : ¬ ep_b true = 0 := by decide
theorem ep_b0 : ep_b false = 0 := rfl
theorem ep_b_d0 (b : Bool) : decide (ep_b b = 0) = !b := by cases b <;> decide
theorem ep_b_d1 (b : Bool) : decide (ep_b b = 1) = b := by cases b <;> decide
theorem ep_b_0 {b : Bool} (h : ep_b b = 0) : b = false := by
  cases b
  · rfl
  · exact absurd h ep_b1
theorem ep_b_1 {b : Bool} (h : ¬ ep_b b = 0) : b = true := by
  cases b
  · exact absurd ep_b0 h
  · rfl
theorem ep_any_congr {p q : Nat → Bool} (n : Nat) (h : ∀ i, i < n → p i = q i) : ep_any p n = ep_any q n := by
  induction n with
  | zero => rfl
  | succ n ih =>
    show (ep_any p n || p n) = (ep_any q n || q n)
    rw [ih (fun i hi => h i (by omega)), h n (by omega)]
theorem ep_any_of {p : Nat → Bool} {i : Nat} (hp : p i = true) (n : Nat) (h : i < n) : ep_any p n = true := by
  induction n with
  | zero => exact absurd h (Nat.not_lt_zero i)
  | succ n ih =>
    show (ep_any p n || p n) = true
    rcases Nat.lt_or_ge i n with g | g
    · rw [ih g, Bool.true_or]
    · have e : i = n := by omega
      rw [← e, hp, Bool.or_true]
theorem ep_any_f {p : Nat → Bool} {n : Nat} {b : Bool} (h : ep_any p n = b) (hp : p n = false) : ep_any p (n + 1) = b := by
  show (ep_any p n || p n) = b
  rw [h, hp, Bool.or_false]
theorem ep_any_t {p : Nat → Bool} {n : Nat} (hp : p n = true) : ep_any p (n + 1) = true := by
  show (ep_any p n || p n) = true
  rw [hp, Bool.or_true]
theorem ep_cnt_congr {p q : Nat → Bool} (n : Nat) (h : ∀ i, i < n → p i = q i) : ep_cnt p n = ep_cnt q n := by
  induction n with
  | zero => rfl
  | succ n ih =>
    show ep_cnt p n + (p n).toNat = ep_cnt q n + (q n).toNat
    rw [ih (fun i hi => h i (by omega)), h n (by omega)]
theorem ep_cnt_t {p : Nat → Bool} {n : Nat} (h : p n = true) : ep_cnt p (n + 1) = ep_cnt p n + 1 := by
  show ep_cnt p n + (p n).toNat = _
  rw [h]; rfl
theorem ep_cnt_f {p : Nat → Bool} {n : Nat} (h : p n = false) : ep_cnt p (n + 1) = ep_cnt p n := by
  show ep_cnt p n + (p n).toNat = _
  rw [h]; rfl
theorem ep_cnt_inc {p q : Nat → Bool} {i : Nat} (hp : p i = false) (hq : q i = true) (ho : ∀ j, j ≠ i → q j = p j) (n : Nat) (h : i < n) : ep_cnt q n = ep_cnt p n + 1 := by
  induction n with
  | zero => exact absurd h (Nat.not_lt_zero i)
  | succ n ih =>
    rcases Nat.lt_or_ge i n with g | g
    · have e1 : ep_cnt q (n + 1) = ep_cnt q n + (q n).toNat := rfl
      have e2 : ep_cnt p (n + 1) = ep_cnt p n + (p n).toNat := rfl
      rw [e1, e2, ih g, ho n (by omega)]
      omega
    · have e : i = n := by omega
      subst e
      rw [ep_cnt_t hq, ep_cnt_f hp, ep_cnt_congr i (fun j hj => ho j (by omega))]
theorem ep_cnt_le (p : Nat → Bool) (n : Nat) : ep_cnt p n ≤ n := by
  induction n with
  | zero => exact Nat.le_refl 0
  | succ n ih =>
    cases h : p n
    · rw [ep_cnt_f h]; omega
    · rw [ep_cnt_t h]; omega
theorem ep_cnt_not (p : Nat → Bool) (n : Nat) : ep_cnt p n + ep_cnt (fun i => !p i) n = n := by
  induction n with
  | zero => rfl
  | succ n ih =>
    cases h : p n
    · rw [ep_cnt_f h, ep_cnt_t (p := fun i => !p i) (by show (!p n) = true; rw [h]; rfl)]; omega
    · rw [ep_cnt_t h, ep_cnt_f (p := fun i => !p i) (by show (!p n) = false; rw [h]; rfl)]; omega
/-- suppression s matches finding f -/
def ep_m (now : Int64) (fR fS fC fM sR sC sM : Nat → Int32) (sU : Nat → Int64) (s f : Nat) : Bool :=
  decide (now ≤ sU s) && (!decide (fS f = 3) && ((decide (sR s = -1) || decide (sR s = fR f)) && ((decide (sC s = 65535) || decide (sC s = fC f)) && (decide (sM s = 65535) || decide (sM s = fM f)))))
theorem ep_m_f {now : Int64} {fR fS fC fM sR sC sM : Nat → Int32} {sU : Nat → Int64} {k : Nat} {a b c d : Int32} (s f : Nat) (h : f ≠ k) : ep_m now (upd fR k a) (upd fS k b) (upd fC k c) (upd fM k d) sR sC sM sU s f = ep_m now fR fS fC fM sR sC sM sU s f := by
  simp only [ep_m, pk_un h]
theorem ep_m_s {now : Int64} {fR fS fC fM sR sC sM : Nat → Int32} {sU : Nat → Int64} {k : Nat} {a b c : Int32} {d : Int64} (s f : Nat) (h : s ≠ k) : ep_m now fR fS fC fM (upd sR k a) (upd sC k b) (upd sM k c) (vp_updL sU k d) s f = ep_m now fR fS fC fM sR sC sM sU s f := by
  simp only [ep_m, pk_un h, pk_uLn h]
/-- the least date of those that p picks below n -/
def ep_ne (p : Nat → Bool) (sU : Nat → Int64) : Nat → Int64
  | 0 => 9223372036854775807
  | n + 1 => cond (p n && !decide (ep_ne p sU n ≤ sU n)) (sU n) (ep_ne p sU n)
theorem ep_ne_f {p : Nat → Bool} {sU : Nat → Int64} {n : Nat} {x : Int64} (e : ep_ne p sU n = x) (h : p n = false) : ep_ne p sU (n + 1) = x := by
  show cond (p n && !decide (ep_ne p sU n ≤ sU n)) (sU n) (ep_ne p sU n) = x
  rw [h, e]; rfl
theorem ep_ne_le {p : Nat → Bool} {sU : Nat → Int64} {n : Nat} {x : Int64} (e : ep_ne p sU n = x) (h : x ≤ sU n) : ep_ne p sU (n + 1) = x := by
  show cond (p n && !decide (ep_ne p sU n ≤ sU n)) (sU n) (ep_ne p sU n) = x
  rw [e, decide_eq_true h, Bool.not_true, Bool.and_false]; rfl
theorem ep_ne_gt {p : Nat → Bool} {sU : Nat → Int64} {n : Nat} {x : Int64} (e : ep_ne p sU n = x) (hp : p n = true) (h : ¬ x ≤ sU n) : ep_ne p sU (n + 1) = sU n := by
  show cond (p n && !decide (ep_ne p sU n ≤ sU n)) (sU n) (ep_ne p sU n) = sU n
  rw [e, decide_eq_false h, hp]; rfl
end
section
/-! the invariants of the state and of the two storing loops, in plain numbers -/
/-- what X's kept arrays and counts hold, by the matches M -/
def ep_J (M : Nat → Nat → Bool) (nF nS nU : Nat) (fS fP sD tl : Nat → Int32) : Prop :=
  (∀ f, f < nF → ∃ j, j < 4 ∧ fS f = nI j) ∧
  (∀ g, g < nF → fP g = ep_b (ep_any (fun s => M s g) nS)) ∧
  (∀ i, i < nS → sD i = ep_b (ep_any (M i) nF)) ∧
  nU = ep_cnt (fun i => decide (sD i = 1)) nS ∧
  (∀ j, j < 4 → tl j = nI (ep_cnt (fun g => decide (fS g = nI j) && decide (fP g = 0)) nF))
/-- addFinding's loop at suppression s, for the new finding k: the marks of use -/
def ep_FU (M : Nat → Nat → Bool) (k nS s nU : Nat) (sD : Nat → Int32) : Prop :=
  (∀ i, i < nS → sD i = ep_b (ep_any (M i) (if i < s then k + 1 else k))) ∧ nU = ep_cnt (fun i => decide (sD i = 1)) nS
/-- .. and the mark of the new finding -/
def ep_FP (M : Nat → Nat → Bool) (k s : Nat) (fP fP0 : Nat → Int32) : Prop :=
  (∀ g, g < k → fP g = fP0 g) ∧ fP k = ep_b (ep_any (fun s => M s k) s)
/-- addSuppression's loop at finding f, for the new suppression k: the mark of use -/
def ep_SU (M : Nat → Nat → Bool) (k f nU : Nat) (sD sD0 : Nat → Int32) : Prop :=
  (∀ i, i < k → sD i = sD0 i) ∧ sD k = ep_b (ep_any (M k) f) ∧ nU = ep_cnt (fun i => decide (sD i = 1)) (k + 1)
/-- .. and the marks of the findings, with the tally -/
def ep_SP (M : Nat → Nat → Bool) (fS : Nat → Int32) (k nF f : Nat) (fP tl : Nat → Int32) : Prop :=
  (∀ g, g < nF → fP g = ep_b (ep_any (fun s => M s g) (if g < f then k + 1 else k))) ∧
  (∀ j, j < 4 → tl j = nI (ep_cnt (fun g => decide (fS g = nI j) && decide (fP g = 0)) nF))
theorem ep_cut {a i s k : Nat} (h : i ≠ s) : (if i < s + 1 then k + 1 else a) = (if i < s then k + 1 else a) := by
  rcases Nat.lt_or_ge i s with g | g
  · rw [if_pos g, if_pos (by omega)]
  · rw [if_neg (by omega), if_neg (by omega)]
theorem ep_d1 {x : Int32} (h : x = 0) : decide (x = 1) = false := by
  rw [h]; decide
theorem ep_updD {sD : Nat → Int32} {s n nU : Nat} (h0 : sD s = 0) (hs : s < n) (e : nU = ep_cnt (fun i => decide (sD i = 1)) n) : nU + 1 = ep_cnt (fun i => decide (upd sD s 1 i = 1)) n := by
  rw [e]
  refine (ep_cnt_inc (p := fun i => decide (sD i = 1)) (q := fun i => decide (upd sD s 1 i = 1)) (i := s) (ep_d1 h0) ?_ ?_ n hs).symm
  · show decide (upd sD s 1 s = 1) = true
    rw [pk_us]; rfl
  · intro j hj
    show decide (upd sD s 1 j = 1) = decide (sD j = 1)
    rw [pk_un hj]
theorem ep_FU_f {M : Nat → Nat → Bool} {k nS s nU : Nat} {sD : Nat → Int32} (hm : M s k = false) (h : ep_FU M k nS s nU sD) : ep_FU M k nS (s + 1) nU sD := by
  refine ⟨fun i hi => ?_, h.2⟩
  by_cases e : i = s
  · have g := h.1 i hi
    subst e
    rw [if_neg (Nat.lt_irrefl i)] at g
    rw [g, if_pos (Nat.lt_succ_self i), ep_any_f rfl hm]
  · rw [ep_cut e]; exact h.1 i hi
theorem ep_FU_t0 {M : Nat → Nat → Bool} {k nS s nU : Nat} {sD : Nat → Int32} (hs : s < nS) (hm : M s k = true) (h0 : sD s = 0) (h : ep_FU M k nS s nU sD) : ep_FU M k nS (s + 1) (nU + 1) (upd sD s 1) := by
  refine ⟨fun i hi => ?_, ep_updD h0 hs h.2⟩
  by_cases e : i = s
  · subst e
    rw [pk_us, if_pos (Nat.lt_succ_self i), ep_any_t hm]; rfl
  · rw [pk_un e, ep_cut e]; exact h.1 i hi
theorem ep_FU_t1 {M : Nat → Nat → Bool} {k nS s nU : Nat} {sD : Nat → Int32} (hm : M s k = true) (h0 : ¬ sD s = 0) (h : ep_FU M k nS s nU sD) : ep_FU M k nS (s + 1) nU sD := by
  refine ⟨fun i hi => ?_, h.2⟩
  by_cases e : i = s
  · have g := h.1 i hi
    subst e
    rw [if_neg (Nat.lt_irrefl i)] at g
    rw [g] at h0
    rw [g, ep_b_1 h0, if_pos (Nat.lt_succ_self i), ep_any_t hm]
  · rw [ep_cut e]; exact h.1 i hi
theorem ep_FP_f {M : Nat → Nat → Bool} {k s : Nat} {fP fP0 : Nat → Int32} (hm : M s k = false) (h : ep_FP M k s fP fP0) : ep_FP M k (s + 1) fP fP0 := by
  refine ⟨h.1, ?_⟩
  rw [ep_any_f (p := fun s => M s k) rfl hm]; exact h.2
theorem ep_FP_t {M : Nat → Nat → Bool} {k s : Nat} {fP fP0 : Nat → Int32} (hm : M s k = true) (h : ep_FP M k s fP fP0) : ep_FP M k (s + 1) (upd fP k 1) fP0 := by
  refine ⟨fun g hg => ?_, ?_⟩
  · rw [pk_un (by omega)]; exact h.1 g hg
  · rw [pk_us, ep_any_t (p := fun s => M s k) hm]; rfl
theorem ep_SU_f {M : Nat → Nat → Bool} {k f nU : Nat} {sD sD0 : Nat → Int32} (hm : M k f = false) (h : ep_SU M k f nU sD sD0) : ep_SU M k (f + 1) nU sD sD0 := by
  refine ⟨h.1, ?_, h.2.2⟩
  rw [ep_any_f rfl hm]; exact h.2.1
theorem ep_SU_t0 {M : Nat → Nat → Bool} {k f nU : Nat} {sD sD0 : Nat → Int32} (hm : M k f = true) (h0 : sD k = 0) (h : ep_SU M k f nU sD sD0) : ep_SU M k (f + 1) (nU + 1) (upd sD k 1) sD0 := by
  refine ⟨fun i hi => ?_, ?_, ep_updD h0 (Nat.lt_succ_self k) h.2.2⟩
  · rw [pk_un (by omega)]; exact h.1 i hi
  · rw [pk_us, ep_any_t hm]; rfl
theorem ep_SU_t1 {M : Nat → Nat → Bool} {k f nU : Nat} {sD sD0 : Nat → Int32} (hm : M k f = true) (h0 : ¬ sD k = 0) (h : ep_SU M k f nU sD sD0) : ep_SU M k (f + 1) nU sD sD0 := by
  refine ⟨h.1, ?_, h.2.2⟩
  have g := h.2.1
  rw [g] at h0
  rw [g, ep_b_1 h0, ep_any_t hm]
theorem ep_SP_f {M : Nat → Nat → Bool} {fS : Nat → Int32} {k nF f : Nat} {fP tl : Nat → Int32} (hm : M k f = false) (h : ep_SP M fS k nF f fP tl) : ep_SP M fS k nF (f + 1) fP tl := by
  refine ⟨fun i hi => ?_, h.2⟩
  by_cases e : i = f
  · have g := h.1 i hi
    subst e
    rw [if_neg (Nat.lt_irrefl i)] at g
    rw [g, if_pos (Nat.lt_succ_self i), ep_any_f (p := fun s => M s i) rfl hm]
  · rw [ep_cut e]; exact h.1 i hi
theorem ep_SP_t1 {M : Nat → Nat → Bool} {fS : Nat → Int32} {k nF f : Nat} {fP tl : Nat → Int32} (hm : M k f = true) (h0 : ¬ fP f = 0) (h : ep_SP M fS k nF f fP tl) : ep_SP M fS k nF (f + 1) fP tl := by
  refine ⟨fun i hi => ?_, h.2⟩
  by_cases e : i = f
  · have g := h.1 i hi
    subst e
    rw [if_neg (Nat.lt_irrefl i)] at g
    rw [g] at h0
    rw [g, ep_b_1 h0, if_pos (Nat.lt_succ_self i), ep_any_t (p := fun s => M s i) hm]
  · rw [ep_cut e]; exact h.1 i hi
theorem ep_SP_t0 {M : Nat → Nat → Bool} {fS : Nat → Int32} {k nF f j : Nat} {fP tl : Nat → Int32} (hf : f < nF) (hj : j < 4) (ej : fS f = nI j) (hm : M k f = true) (h0 : fP f = 0) (h : ep_SP M fS k nF f fP tl) : ep_SP M fS k nF (f + 1) (upd fP f 1) (upd tl j (tl j - 1)) := by
  refine ⟨fun i hi => ?_, fun i hi => ?_⟩
  · by_cases e : i = f
    · subst e
      rw [pk_us, if_pos (Nat.lt_succ_self i), ep_any_t (p := fun s => M s i) hm]; rfl
    · rw [pk_un e, ep_cut e]; exact h.1 i hi
  · by_cases e : i = j
    · subst e
      rw [pk_us, h.2 i hi]
      have c := ep_cnt_inc (p := fun g => decide (fS g = nI i) && decide (upd fP f 1 g = 0)) (q := fun g => decide (fS g = nI i) && decide (fP g = 0)) (i := f)
        (by show (decide (fS f = nI i) && decide (upd fP f 1 f = 0)) = false
            rw [pk_us]; exact Bool.and_false _)
        (by show (decide (fS f = nI i) && decide (fP f = 0)) = true
            rw [decide_eq_true ej, decide_eq_true h0]; rfl)
        (by intro g hg
            show (decide (fS g = nI i) && decide (fP g = 0)) = (decide (fS g = nI i) && decide (upd fP f 1 g = 0))
            rw [pk_un hg]) nF hf
      rw [c, nI_pred]
    · rw [pk_un e, h.2 i hi]
      refine congrArg nI (ep_cnt_congr nF fun g _ => ?_)
      by_cases eg : g = f
      · subst eg
        have ne : ¬ fS g = nI i := by
          rw [ej, nI_eq (by omega) (by omega)]; omega
        show (decide (fS g = nI i) && decide (fP g = 0)) = (decide (fS g = nI i) && decide (upd fP g 1 g = 0))
        rw [decide_eq_false ne]; rfl
      · show (decide (fS g = nI i) && decide (fP g = 0)) = (decide (fS g = nI i) && decide (upd fP f 1 g = 0))
        rw [pk_un eg]
end
section
/-! from the state's invariant into the two storing loops and out of them; the tally by recount -/
theorem ep_FU_0 {M M' : Nat → Nat → Bool} {k nS nU : Nat} {fS fP sD tl : Nat → Int32} (hM : ∀ s g, g ≠ k → M' s g = M s g) (h : ep_J M k nS nU fS fP sD tl) : ep_FU M' k nS 0 nU sD := by
  refine ⟨fun i hi => ?_, h.2.2.2.1⟩
  rw [if_neg (Nat.not_lt_zero i), h.2.2.1 i hi, ep_any_congr k fun f hf => hM i f (by omega)]
theorem ep_FP_0 {M : Nat → Nat → Bool} {k : Nat} {fP : Nat → Int32} : ep_FP M k 0 (upd fP k 0) fP :=
  ⟨fun g hg => pk_un (by omega), pk_us⟩
theorem ep_cnt_af {fS fP fP0 : Nat → Int32} {k i j : Nat} (hP : ∀ g, g < k → fP g = fP0 g) : ep_cnt (fun g => decide (upd fS k (nI j) g = nI i) && decide (fP g = 0)) k = ep_cnt (fun g => decide (fS g = nI i) && decide (fP0 g = 0)) k := by
  refine ep_cnt_congr k fun g hg => ?_
  show (decide (upd fS k (nI j) g = nI i) && decide (fP g = 0)) = (decide (fS g = nI i) && decide (fP0 g = 0))
  rw [pk_un (by omega), hP g hg]
theorem ep_J_af {M M' : Nat → Nat → Bool} {k nS nU nU' j : Nat} {fS fP0 sD0 tl fP sD tl' : Nat → Int32} (hj : j < 4) (hM : ∀ s g, g ≠ k → M' s g = M s g) (h : ep_J M k nS nU fS fP0 sD0 tl) (hU : ep_FU M' k nS nS nU' sD) (hP : ep_FP M' k nS fP fP0) (hT : (fP k = 0 ∧ tl' = upd tl j (tl j + 1)) ∨ (¬ fP k = 0 ∧ tl' = tl)) : ep_J M' (k + 1) nS nU' (upd fS k (nI j)) fP sD tl' := by
  refine ⟨fun f hf => ?_, fun g hg => ?_, fun i hi => ?_, hU.2, fun i hi => ?_⟩
  · by_cases e : f = k
    · exact ⟨j, hj, by rw [e, pk_us]⟩
    · rw [pk_un e]; exact h.1 f (by omega)
  · by_cases e : g = k
    · rw [e]; exact hP.2
    · rw [hP.1 g (by omega), h.2.1 g (by omega), ep_any_congr nS fun s _ => (hM s g e).symm]
  · have g := hU.1 i hi
    rw [if_pos hi] at g
    exact g
  · rcases hT with ⟨h0, rfl⟩ | ⟨h0, rfl⟩
    · by_cases e : i = j
      · subst e
        rw [pk_us, h.2.2.2.2 i hi, nI_1]
        refine congrArg nI ?_
        rw [ep_cnt_t (p := fun g => decide (upd fS k (nI i) g = nI i) && decide (fP g = 0)) (by
          show (decide (upd fS k (nI i) k = nI i) && decide (fP k = 0)) = true
          rw [pk_us, decide_eq_true h0, decide_eq_true rfl]; rfl), ep_cnt_af hP.1]
      · rw [pk_un e, h.2.2.2.2 i hi]
        refine congrArg nI ?_
        have ne : ¬ nI j = nI i := by
          rw [nI_eq (by omega) (by omega)]; omega
        rw [ep_cnt_f (p := fun g => decide (upd fS k (nI j) g = nI i) && decide (fP g = 0)) (by
          show (decide (upd fS k (nI j) k = nI i) && decide (fP k = 0)) = false
          rw [pk_us, decide_eq_false ne]; rfl), ep_cnt_af hP.1]
    · rw [h.2.2.2.2 i hi]
      refine congrArg nI ?_
      rw [ep_cnt_f (p := fun g => decide (upd fS k (nI j) g = nI i) && decide (fP g = 0)) (by
        show (decide (upd fS k (nI j) k = nI i) && decide (fP k = 0)) = false
        rw [decide_eq_false h0, Bool.and_false]), ep_cnt_af hP.1]
theorem ep_SU_0 {M M' : Nat → Nat → Bool} {k nF nU : Nat} {fS fP sD tl : Nat → Int32} (h : ep_J M nF k nU fS fP sD tl) : ep_SU M' k 0 nU (upd sD k 0) sD := by
  refine ⟨fun i hi => pk_un (by omega), pk_us, ?_⟩
  rw [ep_cnt_f (p := fun i => decide (upd sD k 0 i = 1)) (by
    show decide (upd sD k 0 k = 1) = false
    rw [pk_us]; decide), h.2.2.2.1]
  refine ep_cnt_congr k fun i hi => ?_
  show decide (sD i = 1) = decide (upd sD k 0 i = 1)
  rw [pk_un (by omega)]
theorem ep_SP_0 {M M' : Nat → Nat → Bool} {k nF nU : Nat} {fS fP sD tl : Nat → Int32} (hM : ∀ s g, s ≠ k → M' s g = M s g) (h : ep_J M nF k nU fS fP sD tl) : ep_SP M' fS k nF 0 fP tl := by
  refine ⟨fun g hg => ?_, h.2.2.2.2⟩
  rw [if_neg (Nat.not_lt_zero g), h.2.1 g hg, ep_any_congr k fun s hs => (hM s g (by omega)).symm]
theorem ep_J_as {M M' : Nat → Nat → Bool} {k nF nU nU' : Nat} {fS fP0 sD0 tl0 fP sD tl : Nat → Int32} (hM : ∀ s g, s ≠ k → M' s g = M s g) (h : ep_J M nF k nU fS fP0 sD0 tl0) (hU : ep_SU M' k nF nU' sD sD0) (hP : ep_SP M' fS k nF nF fP tl) : ep_J M' nF (k + 1) nU' fS fP sD tl := by
  refine ⟨h.1, fun g hg => ?_, fun i hi => ?_, hU.2.2, hP.2⟩
  · have e := hP.1 g hg
    rw [if_pos hg] at e
    exact e
  · by_cases e : i = k
    · rw [e]; exact hU.2.1
    · rw [hU.1 i (by omega), h.2.2.1 i (by omega), ep_any_congr nF fun f _ => (hM i f e).symm]
/-- the tally as Y counts it is X's -/
theorem ep_J_t {M : Nat → Nat → Bool} {nF nS nU : Nat} {fS fP sD tl : Nat → Int32} (h : ep_J M nF nS nU fS fP sD tl) (j : Nat) (hj : j < 4) : nI (ep_cnt (fun g => decide (fS g = nI j) && !ep_any (fun s => M s g) nS) nF) = tl j := by
  rw [h.2.2.2.2 j hj]
  refine congrArg nI (ep_cnt_congr nF fun g hg => ?_)
  show (decide (fS g = nI j) && !ep_any (fun s => M s g) nS) = (decide (fS g = nI j) && decide (fP g = 0))
  rw [h.2.1 g hg, ep_b_d0]
/-- the number of unused ones as Y counts it is X's difference -/
theorem ep_J_u {M : Nat → Nat → Bool} {nF nS nU : Nat} {fS fP sD tl : Nat → Int32} (h : ep_J M nF nS nU fS fP sD tl) : nI nS - nI nU = nI (ep_cnt (fun i => !ep_any (M i) nF) nS) := by
  have e : nU = ep_cnt (fun i => ep_any (M i) nF) nS := by
    rw [h.2.2.2.1]
    refine ep_cnt_congr nS fun i hi => ?_
    show decide (sD i = 1) = ep_any (M i) nF
    rw [h.2.2.1 i hi, ep_b_d1]
  have c := ep_cnt_not (fun i => ep_any (M i) nF) nS
  rw [pk_sub (by omega)]
  refine congrArg nI ?_
  omega
theorem ep_sh : ∀ c, c < 6 → vp_nar .short ((nI c + 1).toInt16.toInt32) = nI (c + 1) := by
  intro c hc
  rw [vp_nar_short]
  revert c
  decide
theorem ep_by : ∀ c, c < 4 → vp_nar .byte ((nI c).toInt8.toInt32) = nI c := by
  intro c hc
  rw [vp_nar_byte]
  revert c
  decide
theorem ep_a3 : ∀ c, c < 4 → nI c &&& 3 = nI c := by decide
theorem ep_s0 : vp_nar .short 0 = 0 := by
  rw [vp_nar_short]; decide
/-- one step of Y's recount: finding f isn't hit, of severity j -/
theorem ep_t_0 {M : Nat → Nat → Bool} {fS yt : Nat → Int32} {nS f j : Nat} (hf : f < 6) (hj : j < 4) (ej : fS f = nI j) (hm : ep_any (fun s => M s f) nS = false) (h : ∀ i, i < 4 → yt i = nI (ep_cnt (fun g => decide (fS g = nI i) && !ep_any (fun s => M s g) nS) f)) : ∀ i, i < 4 → upd yt j (vp_nar .short ((yt j + 1).toInt16.toInt32)) i = nI (ep_cnt (fun g => decide (fS g = nI i) && !ep_any (fun s => M s g) nS) (f + 1)) := by
  intro i hi
  by_cases e : i = j
  · subst e
    have l := ep_cnt_le (fun g => decide (fS g = nI i) && !ep_any (fun s => M s g) nS) f
    rw [pk_us, h i hi, ep_sh _ (by omega)]
    refine congrArg nI ?_
    rw [ep_cnt_t (p := fun g => decide (fS g = nI i) && !ep_any (fun s => M s g) nS) (by
      show (decide (fS f = nI i) && !ep_any (fun s => M s f) nS) = true
      rw [hm, decide_eq_true ej]; rfl)]
  · rw [pk_un e, h i hi]
    refine congrArg nI ?_
    have ne : ¬ fS f = nI i := by
      rw [ej, nI_eq (by omega) (by omega)]; omega
    rw [ep_cnt_f (p := fun g => decide (fS g = nI i) && !ep_any (fun s => M s g) nS) (by
      show (decide (fS f = nI i) && !ep_any (fun s => M s f) nS) = false
      rw [decide_eq_false ne]; rfl)]
theorem ep_t_1 {M : Nat → Nat → Bool} {fS yt : Nat → Int32} {nS f : Nat} (hm : ep_any (fun s => M s f) nS = true) (h : ∀ i, i < 4 → yt i = nI (ep_cnt (fun g => decide (fS g = nI i) && !ep_any (fun s => M s g) nS) f)) : ∀ i, i < 4 → yt i = nI (ep_cnt (fun g => decide (fS g = nI i) && !ep_any (fun s => M s g) nS) (f + 1)) := by
  intro i hi
  rw [h i hi]
  refine congrArg nI ?_
  rw [ep_cnt_f (p := fun g => decide (fS g = nI i) && !ep_any (fun s => M s g) nS) (by
    show (decide (fS f = nI i) && !ep_any (fun s => M s f) nS) = false
    rw [hm, Bool.not_true, Bool.and_false])]
end
section
/-! both sides' matches answers ep_m -/
section
variable {post : Int32 → Prop} {th : Int32} {now : Int64} {cF cS cU : Int32} {fR fS fC fM fP sR sC sM : Nat → Int32} {sU : Nat → Int64} {sD tl : Nat → Int32} {s f : Nat}
theorem ep_X83 (hs : s < 4) (hf : f < 6) (h : post (ep_b (decide (sM s = 65535) || decide (sM s = fM f)))) : wX_matches_83 post (nI s) (nI f) th now cF cS cU fR fS fC fM fP sR sC sM sU sD tl := by
  have is : vp_in (nI s) 4 := vp_in_nI hs (by decide)
  have jf : vp_in (nI f) 6 := vp_in_nI hf (by decide)
  unfold wX_matches_83
  rw [nI_clamp (n := s) (by omega), nI_clamp (n := f) (by omega)]
  refine ⟨is, br_c (fun e => ?_) (fun e => ⟨is, jf, br_c (fun e2 => ?_) (fun e2 => ?_)⟩)⟩
  · rw [decide_eq_true e, Bool.true_or] at h; exact h
  · rw [decide_eq_true e2, Bool.or_true] at h; exact h
  · rw [decide_eq_false e, decide_eq_false e2, Bool.or_false] at h; exact h
theorem ep_X55 (hs : s < 4) (hf : f < 6) (h : post (ep_b ((decide (sC s = 65535) || decide (sC s = fC f)) && (decide (sM s = 65535) || decide (sM s = fM f))))) : wX_matches_55 post (nI s) (nI f) th now cF cS cU fR fS fC fM fP sR sC sM sU sD tl := by
  have is : vp_in (nI s) 4 := vp_in_nI hs (by decide)
  have jf : vp_in (nI f) 6 := vp_in_nI hf (by decide)
  unfold wX_matches_55
  rw [nI_clamp (n := s) (by omega), nI_clamp (n := f) (by omega)]
  refine ⟨is, br_c (fun e => ?_) (fun e => ⟨is, jf, br_c (fun e2 => ?_) (fun e2 => ?_)⟩)⟩
  · rw [decide_eq_true e, Bool.true_or, Bool.true_and] at h; exact ep_X83 hs hf h
  · rw [decide_eq_true e2, Bool.or_true, Bool.true_and] at h; exact ep_X83 hs hf h
  · rw [decide_eq_false e, decide_eq_false e2, Bool.or_false, Bool.false_and] at h; exact h
theorem ep_X {b : Bool} (hs : s < 4) (hf : f < 6) (hb : ep_m now fR fS fC fM sR sC sM sU s f = b) (h : post (ep_b b)) : wpX_matches post (th, now, cF, cS, cU, fR, fS, fC, fM, fP, sR, sC, sM, sU, sD, tl) (nI s) (nI f) := by
  have is : vp_in (nI s) 4 := vp_in_nI hs (by decide)
  have jf : vp_in (nI f) 6 := vp_in_nI hf (by decide)
  rw [← hb] at h
  unfold ep_m at h
  unfold wpX_matches
  dsimp only
  rw [nI_clamp (n := s) (by omega), nI_clamp (n := f) (by omega)]
  refine ⟨is, br_c (fun e => ⟨jf, br_c (fun e3 => ?_) (fun e3 => ⟨is, br_c (fun e4 => ?_) (fun e4 => ⟨is, jf, br_c (fun e5 => ?_) (fun e5 => ?_)⟩)⟩)⟩) (fun e => ?_)⟩
  · rw [decide_eq_true e3, Bool.not_true, Bool.false_and, Bool.and_false] at h; exact h
  · rw [decide_eq_true e, decide_eq_false e3, decide_eq_true e4, Bool.true_and, Bool.not_false, Bool.true_and, Bool.true_or, Bool.true_and] at h; exact ep_X55 hs hf h
  · rw [decide_eq_true e, decide_eq_false e3, decide_eq_true e5, Bool.true_and, Bool.not_false, Bool.true_and, Bool.or_true, Bool.true_and] at h; exact ep_X55 hs hf h
  · rw [decide_eq_true e, decide_eq_false e3, decide_eq_false e4, decide_eq_false e5, Bool.true_and, Bool.not_false, Bool.true_and, Bool.or_false, Bool.false_and] at h; exact h
  · rw [decide_eq_false e, Bool.false_and] at h; exact h
end
section
variable {post : Int32 → Prop} {th : Int32} {now : Int64} {cF cS : Int32} {fR fS fC fM sR sC sM : Nat → Int32} {sU : Nat → Int64} {yt : Nat → Int32} {s f : Nat}
theorem ep_Y83 (hs : s < 4) (hf : f < 6) (h : post (ep_b (decide (sM s = 65535) || decide (sM s = fM f)))) : wY_matches_83 post (nI f) (nI s) th now cF cS fR fS fC fM sR sC sM sU yt := by
  have is : vp_in (nI s) 4 := vp_in_nI hs (by decide)
  have jf : vp_in (nI f) 6 := vp_in_nI hf (by decide)
  unfold wY_matches_83
  rw [nI_clamp (n := s) (by omega), nI_clamp (n := f) (by omega)]
  refine ⟨is, br_c (fun e => ?_) (fun e => ⟨is, jf, br_c (fun e2 => ?_) (fun e2 => ?_)⟩)⟩
  · rw [decide_eq_true e, Bool.true_or] at h; exact h
  · rw [decide_eq_true e2, Bool.or_true] at h; exact h
  · rw [decide_eq_false e, decide_eq_false e2, Bool.or_false] at h; exact h
theorem ep_Y55 (hs : s < 4) (hf : f < 6) (h : post (ep_b ((decide (sC s = 65535) || decide (sC s = fC f)) && (decide (sM s = 65535) || decide (sM s = fM f))))) : wY_matches_55 post (nI f) (nI s) th now cF cS fR fS fC fM sR sC sM sU yt := by
  have is : vp_in (nI s) 4 := vp_in_nI hs (by decide)
  have jf : vp_in (nI f) 6 := vp_in_nI hf (by decide)
  unfold wY_matches_55
  rw [nI_clamp (n := s) (by omega), nI_clamp (n := f) (by omega)]
  refine ⟨is, br_c (fun e => ?_) (fun e => ⟨is, jf, br_c (fun e2 => ?_) (fun e2 => ?_)⟩)⟩
  · rw [decide_eq_true e, Bool.true_or, Bool.true_and] at h; exact ep_Y83 hs hf h
  · rw [decide_eq_true e2, Bool.or_true, Bool.true_and] at h; exact ep_Y83 hs hf h
  · rw [decide_eq_false e, decide_eq_false e2, Bool.or_false, Bool.false_and] at h; exact h
theorem ep_Y {b : Bool} (hs : s < 4) (hf : f < 6) (hb : ep_m now fR fS fC fM sR sC sM sU s f = b) (h : post (ep_b b)) : wpY_matches post (th, now, cF, cS, fR, fS, fC, fM, sR, sC, sM, sU, yt) (nI f) (nI s) := by
  have is : vp_in (nI s) 4 := vp_in_nI hs (by decide)
  have jf : vp_in (nI f) 6 := vp_in_nI hf (by decide)
  rw [← hb] at h
  unfold ep_m at h
  unfold wpY_matches
  dsimp only
  rw [nI_clamp (n := s) (by omega), nI_clamp (n := f) (by omega)]
  refine ⟨is, br_c (fun e => ⟨jf, br_c (fun e3 => ?_) (fun e3 => ⟨is, br_c (fun e4 => ?_) (fun e4 => ⟨is, jf, br_c (fun e5 => ?_) (fun e5 => ?_)⟩)⟩)⟩) (fun e => ?_)⟩
  · rw [decide_eq_true e3, Bool.not_true, Bool.false_and, Bool.and_false] at h; exact h
  · rw [decide_eq_true e, decide_eq_false e3, decide_eq_true e4, Bool.true_and, Bool.not_false, Bool.true_and, Bool.true_or, Bool.true_and] at h; exact ep_Y55 hs hf h
  · rw [decide_eq_true e, decide_eq_false e3, decide_eq_true e5, Bool.true_and, Bool.not_false, Bool.true_and, Bool.or_true, Bool.true_and] at h; exact ep_Y55 hs hf h
  · rw [decide_eq_true e, decide_eq_false e3, decide_eq_false e4, decide_eq_false e5, Bool.true_and, Bool.not_false, Bool.true_and, Bool.or_false, Bool.false_and] at h; exact h
  · rw [decide_eq_false e, Bool.false_and] at h; exact h
end
end
section
/-! X's two storing loops, nextExpiry and the entry of the storing methods -/
section
variable {post : Int32 → SX → Prop} {th : Int32} {now : Int64} {cF cS cU : Int32} {fR fS fC fM fP sR sC sM : Nat → Int32} {sU : Nat → Int64} {sD tl : Nat → Int32}
theorem ep_afL {x2 : Int32} {nS k : Nat} {fP0 : Nat → Int32} (hS : nS ≤ 4) (hk : k < 6) (hx : vp_in x2 4)
    (K : ∀ (nU : Nat) (fP sD : Nat → Int32), ep_FU (ep_m now fR fS fC fM sR sC sM sU) k nS nS nU sD → ep_FP (ep_m now fR fS fC fM sR sC sM sU) k nS fP fP0 → (fP k = 0 → post 0 (th, now, cF, nI nS, nI nU, fR, fS, fC, fM, fP, sR, sC, sM, sU, sD, upd tl x2.toNatClampNeg ((tl x2.toNatClampNeg) + 1))) ∧ (¬ fP k = 0 → post 0 (th, now, cF, nI nS, nI nU, fR, fS, fC, fM, fP, sR, sC, sM, sU, sD, tl))) :
    ∀ (d s nU : Nat) (fP sD : Nat → Int32), s + d = nS → ep_FU (ep_m now fR fS fC fM sR sC sM sU) k nS s nU sD → ep_FP (ep_m now fR fS fC fM sR sC sM sU) k s fP fP0 → wX_addFinding_117 post x2 (nI k) th now cF (nI nS) (d + 1) (nI s) (nI nU) fR fS fC fM fP sR sC sM sU sD tl := by
  have ik : vp_in (nI k) 6 := vp_in_nI hk (by decide)
  have ck : (nI k).toNatClampNeg = k := nI_clamp (by omega)
  intro d
  induction d with
  | zero =>
    intro s nU fP sD e A B
    have e' : s = nS := by omega
    rw [e'] at A B ⊢
    unfold wX_addFinding_117
    refine br_t (nI_le (Nat.le_refl _) (by omega)) ⟨ik, ?_⟩
    rw [ck]
    exact br_c (fun h => ⟨hx, hx, nm_e ((K nU fP sD A B).1 h)⟩) (fun h => (K nU fP sD A B).2 h)
  | succ d ih =>
    intro s nU fP sD e A B
    have hs : s < 4 := by omega
    have is : vp_in (nI s) 4 := vp_in_nI hs (by decide)
    have cs : (nI s).toNatClampNeg = s := nI_clamp (by omega)
    unfold wX_addFinding_117
    refine br_f (nI_ge (by omega) (by omega)) ?_
    cases hm : (ep_m now fR fS fC fM sR sC sM sU) s k
    · refine ep_X hs hk hm ?_
      exact br_t rfl (nm_r (nI_1 s) (ih (s + 1) nU fP sD (by omega) (ep_FU_f hm A) (ep_FP_f hm B)))
    · refine ep_X hs hk hm ?_
      refine br_f ep_b1 ⟨ik, nm_r (e' := upd fP k 1) (by rw [ck]; rfl) ⟨is, ?_⟩⟩
      rw [cs]
      refine br_c (fun h0 => ⟨is, nm_r (e' := upd sD s 1) rfl (nm_r (nI_1 nU) (nm_r (nI_1 s) ?_))⟩) (fun h0 => nm_r (nI_1 s) ?_)
      · exact ih (s + 1) (nU + 1) (upd fP k 1) (upd sD s 1) (by omega) (ep_FU_t0 (by omega) hm h0 A) (ep_FP_t hm B)
      · exact ih (s + 1) nU (upd fP k 1) sD (by omega) (ep_FU_t1 hm h0 A) (ep_FP_t hm B)
theorem ep_as119 {J : Int32 → Int32 → (Nat → Int32) → (Nat → Int32) → (Nat → Int32) → (Nat → Int32) → (Nat → Int32) → (Nat → Int32) → (Nat → Int32) → (Nat → Int32) → (Nat → Int64) → (Nat → Int32) → (Nat → Int32) → Prop} {x6 : Int32} {f j : Nat} (hf : f < 6) (hj : j < 4) (ej : fS f = nI j)
    (K0 : fP f = 0 → J (nI (f + 1)) cU fR fS fC fM (upd fP f 1) sR sC sM sU sD (upd tl j (tl j - 1))) (K1 : ¬ fP f = 0 → J (nI (f + 1)) cU fR fS fC fM fP sR sC sM sU sD tl) :
    wX_addSuppression_119 post J x6 (nI f) th now cF cS cU fR fS fC fM fP sR sC sM sU sD tl := by
  have jf : vp_in (nI f) 6 := vp_in_nI hf (by decide)
  have ij : vp_in (nI j) 4 := vp_in_nI hj (by decide)
  unfold wX_addSuppression_119
  rw [nI_clamp (n := f) (by omega), ej, nI_clamp (n := j) (by omega)]
  exact ⟨jf, br_c (fun h => ⟨jf, nm_r (e' := upd fP f 1) rfl ⟨jf, jf, ij, ij, nm_e (nm_r (nI_1 f) (K0 h))⟩⟩) (fun h => nm_r (nI_1 f) (K1 h))⟩
theorem ep_asL {nF k : Nat} {sD0 : Nat → Int32} (hF : nF ≤ 6) (hk : k < 4) (hj : ∀ f, f < nF → ∃ j, j < 4 ∧ fS f = nI j)
    (K : ∀ (nU : Nat) (fP sD tl : Nat → Int32), ep_SU (ep_m now fR fS fC fM sR sC sM sU) k nF nU sD sD0 → ep_SP (ep_m now fR fS fC fM sR sC sM sU) fS k nF nF fP tl → post 0 (th, now, nI nF, cS, nI nU, fR, fS, fC, fM, fP, sR, sC, sM, sU, sD, tl)) :
    ∀ (d f nU : Nat) (fP sD tl : Nat → Int32), f + d = nF → ep_SU (ep_m now fR fS fC fM sR sC sM sU) k f nU sD sD0 → ep_SP (ep_m now fR fS fC fM sR sC sM sU) fS k nF f fP tl → wX_addSuppression_71 post (nI k) th now (nI nF) cS (d + 1) (nI f) (nI nU) fR fS fC fM fP sR sC sM sU sD tl := by
  have ik : vp_in (nI k) 4 := vp_in_nI hk (by decide)
  have ck : (nI k).toNatClampNeg = k := nI_clamp (by omega)
  intro d
  induction d with
  | zero =>
    intro f nU fP sD tl e A B
    have e' : f = nF := by omega
    rw [e'] at A B ⊢
    unfold wX_addSuppression_71
    exact br_t (nI_le (Nat.le_refl _) (by omega)) (K nU fP sD tl A B)
  | succ d ih =>
    intro f nU fP sD tl e A B
    have hf : f < 6 := by omega
    obtain ⟨j, hj4, ej⟩ := hj f (by omega)
    unfold wX_addSuppression_71
    refine br_f (nI_ge (by omega) (by omega)) ?_
    cases hm : (ep_m now fR fS fC fM sR sC sM sU) k f
    · refine ep_X hk hf hm ?_
      exact br_t rfl (nm_r (nI_1 f) (ih (f + 1) nU fP sD tl (by omega) (ep_SU_f hm A) (ep_SP_f hm B)))
    · refine ep_X hk hf hm ?_
      refine br_f ep_b1 ⟨ik, ?_⟩
      rw [ck]
      refine br_c (fun h0 => ⟨ik, nm_r (e' := upd sD k 1) rfl (nm_r (nI_1 nU) ?_)⟩) (fun h0 => ?_)
      · exact ep_as119 hf hj4 ej (fun z => ih (f + 1) (nU + 1) (upd fP f 1) (upd sD k 1) (upd tl j (tl j - 1)) (by omega) (ep_SU_t0 hm h0 A) (ep_SP_t0 (by omega) hj4 ej hm z B)) (fun z => ih (f + 1) (nU + 1) fP (upd sD k 1) tl (by omega) (ep_SU_t0 hm h0 A) (ep_SP_t1 hm z B))
      · exact ep_as119 hf hj4 ej (fun z => ih (f + 1) nU (upd fP f 1) sD (upd tl j (tl j - 1)) (by omega) (ep_SU_t1 hm h0 A) (ep_SP_t0 (by omega) hj4 ej hm z B)) (fun z => ih (f + 1) nU fP sD tl (by omega) (ep_SU_t1 hm h0 A) (ep_SP_t1 hm z B))
end
section
variable {post : Int64 → Prop} {th : Int32} {now : Int64} {cF cS cU : Int32} {fR fS fC fM fP sR sC sM : Nat → Int32} {sU : Nat → Int64} {sD tl : Nat → Int32}
theorem ep_xne {p : Nat → Bool} {nS : Nat} (hS : nS ≤ 4) (hD : ∀ i, i < nS → sD i = ep_b (p i)) (h : post (ep_ne p sU nS)) :
    ∀ (d s : Nat) (x : Int64), s + d = nS → ep_ne p sU s = x → wX_nextExpiry_6 post th now cF (nI nS) cU fR fS fC fM fP sR sC sM sU sD tl (d + 1) x (nI s) := by
  intro d
  induction d with
  | zero =>
    intro s x e ex
    have e' : s = nS := by omega
    rw [e'] at ex ⊢
    unfold wX_nextExpiry_6
    refine br_t (nI_le (Nat.le_refl _) (by omega)) ?_
    rw [← ex]; exact h
  | succ d ih =>
    intro s x e ex
    have hs : s < 4 := by omega
    have is : vp_in (nI s) 4 := vp_in_nI hs (by decide)
    unfold wX_nextExpiry_6
    refine br_f (nI_ge (by omega) (by omega)) ⟨is, ?_⟩
    rw [nI_clamp (n := s) (by omega), hD s (by omega)]
    cases hp : p s
    · exact br_t rfl (nm_r (nI_1 s) (ih (s + 1) x (by omega) (ep_ne_f ex hp)))
    · exact br_f ep_b1 ⟨is, br_c (fun hl => nm_r (nI_1 s) (ih (s + 1) x (by omega) (ep_ne_le ex hl))) (fun hl => ⟨is, nm_e (nm_r (nI_1 s) (ih (s + 1) (sU s) (by omega) (ep_ne_gt ex hp hl)))⟩)⟩
end
end
section
/-! Y's recount, used, unusedSuppressions and nextExpiry; exitCode's loops side by side -/
section
variable {post : SY → Prop} {th : Int32} {now : Int64} {cF cS : Int32} {fR fS fC fM sR sC sM : Nat → Int32} {sU : Nat → Int64} {yt : Nat → Int32}
theorem ep_rc36 {J : Int32 → (Nat → Int32) → (Nat → Int32) → (Nat → Int32) → (Nat → Int32) → (Nat → Int32) → (Nat → Int32) → (Nat → Int32) → (Nat → Int64) → (Nat → Int32) → Prop} {nS f j : Nat} (hS : nS ≤ 4) (hf : f < 6) (hj : j < 4) (ej : fS f = nI j)
    (K0 : ep_any (fun s => (ep_m now fR fS fC fM sR sC sM sU) s f) nS = false → J (nI (f + 1)) fR fS fC fM sR sC sM sU (upd yt j (vp_nar .short ((yt j + 1).toInt16.toInt32))))
    (K1 : ep_any (fun s => (ep_m now fR fS fC fM sR sC sM sU) s f) nS = true → J (nI (f + 1)) fR fS fC fM sR sC sM sU yt) :
    ∀ (d s : Nat) (b : Bool), s + d = nS → ep_any (fun s => (ep_m now fR fS fC fM sR sC sM sU) s f) s = b → wY_recount_36 post J (nI f) th now cF (nI nS) fR fS fC fM sR sC sM sU yt (d + 1) (ep_b b) (nI s) := by
  have jf : vp_in (nI f) 6 := vp_in_nI hf (by decide)
  have ij : vp_in (nI j) 4 := vp_in_nI hj (by decide)
  intro d
  induction d with
  | zero =>
    intro s b e hb
    have e' : s = nS := by omega
    rw [e'] at hb ⊢
    unfold wY_recount_36
    refine br_t (nI_le (Nat.le_refl _) (by omega)) ?_
    rw [nI_clamp (n := f) (by omega), ej, ep_a3 j hj, nI_clamp (n := j) (by omega)]
    cases b
    · exact br_t rfl ⟨jf, ij, ij, nm_e (nm_r (nI_1 f) (K0 hb))⟩
    · exact br_f ep_b1 (nm_r (nI_1 f) (K1 hb))
  | succ d ih =>
    intro s b e hb
    have hs : s < 4 := by omega
    unfold wY_recount_36
    refine br_f (nI_ge (by omega) (by omega)) ?_
    cases hm : (ep_m now fR fS fC fM sR sC sM sU) s f
    · refine ep_Y hs hf hm ?_
      exact br_t rfl (nm_r (nI_1 s) (ih (s + 1) b (by omega) (ep_any_f (p := fun s => (ep_m now fR fS fC fM sR sC sM sU) s f) hb hm)))
    · refine ep_Y hs hf hm ?_
      exact br_f ep_b1 (nm_r (nI_1 s) (ih (s + 1) true (by omega) (ep_any_t (p := fun s => (ep_m now fR fS fC fM sR sC sM sU) s f) hm)))
theorem ep_rc23 {nF nS : Nat} (hF : nF ≤ 6) (hS : nS ≤ 4) (hj : ∀ f, f < nF → ∃ j, j < 4 ∧ fS f = nI j)
    (K : ∀ yt : Nat → Int32, (∀ j, j < 4 → yt j = nI (ep_cnt (fun g => decide (fS g = nI j) && !ep_any (fun s => (ep_m now fR fS fC fM sR sC sM sU) s g) nS) nF)) → post (th, now, nI nF, nI nS, fR, fS, fC, fM, sR, sC, sM, sU, yt)) :
    ∀ (d f : Nat) (yt : Nat → Int32), f + d = nF → (∀ j, j < 4 → yt j = nI (ep_cnt (fun g => decide (fS g = nI j) && !ep_any (fun s => (ep_m now fR fS fC fM sR sC sM sU) s g) nS) f)) → wY_recount_23 post th now (nI nF) (nI nS) (d + 1) (nI f) fR fS fC fM sR sC sM sU yt := by
  intro d
  induction d with
  | zero =>
    intro f yt e A
    have e' : f = nF := by omega
    rw [e'] at A ⊢
    unfold wY_recount_23
    exact br_t (nI_le (Nat.le_refl _) (by omega)) (K yt A)
  | succ d ih =>
    intro f yt e A
    have hf : f < 6 := by omega
    obtain ⟨j, hj4, ej⟩ := hj f (by omega)
    unfold wY_recount_23
    refine br_f (nI_ge (by omega) (by omega)) ⟨nS + 1, ?_⟩
    exact ep_rc36 hS hf hj4 ej (fun z => ih (f + 1) (upd yt j (vp_nar .short ((yt j + 1).toInt16.toInt32))) (by omega) (ep_t_0 hf hj4 ej z A)) (fun z => ih (f + 1) yt (by omega) (ep_t_1 z A)) nS 0 false (by omega) rfl
theorem ep_rc {nF nS : Nat} (hF : nF ≤ 6) (hS : nS ≤ 4) (hj : ∀ f, f < nF → ∃ j, j < 4 ∧ fS f = nI j)
    (K : ∀ yt : Nat → Int32, (∀ j, j < 4 → yt j = nI (ep_cnt (fun g => decide (fS g = nI j) && !ep_any (fun s => (ep_m now fR fS fC fM sR sC sM sU) s g) nS) nF)) → post (th, now, nI nF, nI nS, fR, fS, fC, fM, sR, sC, sM, sU, yt)) :
    wpY_recount post (th, now, nI nF, nI nS, fR, fS, fC, fM, sR, sC, sM, sU, yt) := by
  unfold wpY_recount
  dsimp only
  refine nm_e (nm_e (nm_e (nm_e ⟨nF + 1, ?_⟩)))
  rw [ep_s0]
  refine ep_rc23 hF hS hj K nF 0 _ (by omega) ?_
  intro i hi
  match i, hi with
  | 0, _ => rfl
  | 1, _ => rfl
  | 2, _ => rfl
  | 3, _ => rfl
end
section
variable {post : Int32 → Prop} {th : Int32} {now : Int64} {cF cS : Int32} {fR fS fC fM sR sC sM : Nat → Int32} {sU : Nat → Int64} {yt : Nat → Int32}
theorem ep_us2 {nF s : Nat} (hF : nF ≤ 6) (hs : s < 4) (h : post (ep_b (ep_any ((ep_m now fR fS fC fM sR sC sM sU) s) nF))) :
    ∀ (d f : Nat), f + d = nF → ep_any ((ep_m now fR fS fC fM sR sC sM sU) s) f = false → wY_used_2 post (nI s) th now (nI nF) cS fR fS fC fM sR sC sM sU yt (d + 1) (nI f) := by
  intro d
  induction d with
  | zero =>
    intro f e hb
    have e' : f = nF := by omega
    rw [e'] at hb ⊢
    unfold wY_used_2
    rw [hb] at h
    exact br_t (nI_le (Nat.le_refl _) (by omega)) h
  | succ d ih =>
    intro f e hb
    have hf : f < 6 := by omega
    unfold wY_used_2
    refine br_f (nI_ge (by omega) (by omega)) ?_
    cases hm : (ep_m now fR fS fC fM sR sC sM sU) s f
    · refine ep_Y hs hf hm ?_
      exact br_t rfl (nm_r (nI_1 f) (ih (f + 1) (by omega) (ep_any_f hb hm)))
    · refine ep_Y hs hf hm ?_
      rw [ep_any_of hm nF (by omega)] at h
      exact br_f ep_b1 h
theorem ep_us {nF s : Nat} {b : Bool} (hF : nF ≤ 6) (hs : s < 4) (hb : ep_any ((ep_m now fR fS fC fM sR sC sM sU) s) nF = b) (h : post (ep_b b)) : wpY_used post (th, now, nI nF, cS, fR, fS, fC, fM, sR, sC, sM, sU, yt) (nI s) := by
  unfold wpY_used
  dsimp only
  rw [← hb] at h
  exact ⟨nF + 1, ep_us2 hF hs h nF 0 (by omega) rfl⟩
theorem ep_un {nF nS : Nat} (hF : nF ≤ 6) (hS : nS ≤ 4) (h : post (nI (ep_cnt (fun i => !ep_any ((ep_m now fR fS fC fM sR sC sM sU) i) nF) nS))) :
    ∀ (d s : Nat), s + d = nS → wY_unusedSuppressions_4 post th now (nI nF) (nI nS) fR fS fC fM sR sC sM sU yt (d + 1) (nI (ep_cnt (fun i => !ep_any ((ep_m now fR fS fC fM sR sC sM sU) i) nF) s)) (nI s) := by
  intro d
  induction d with
  | zero =>
    intro s e
    have e' : s = nS := by omega
    rw [e']
    unfold wY_unusedSuppressions_4
    exact br_t (nI_le (Nat.le_refl _) (by omega)) h
  | succ d ih =>
    intro s e
    have hs : s < 4 := by omega
    have I := ih (s + 1) (by omega)
    unfold wY_unusedSuppressions_4
    refine br_f (nI_ge (by omega) (by omega)) ?_
    cases hu : ep_any ((ep_m now fR fS fC fM sR sC sM sU) s) nF
    · refine ep_us hF hs hu ?_
      rw [ep_cnt_t (p := fun i => !ep_any ((ep_m now fR fS fC fM sR sC sM sU) i) nF) (by show (!ep_any ((ep_m now fR fS fC fM sR sC sM sU) s) nF) = true; rw [hu]; rfl)] at I
      exact br_t rfl (nm_r (nI_1 _) (nm_r (nI_1 s) I))
    · refine ep_us hF hs hu ?_
      rw [ep_cnt_f (p := fun i => !ep_any ((ep_m now fR fS fC fM sR sC sM sU) i) nF) (by show (!ep_any ((ep_m now fR fS fC fM sR sC sM sU) s) nF) = false; rw [hu]; rfl)] at I
      exact br_f ep_b1 (nm_r (nI_1 s) I)
end
section
variable {post : Int64 → Prop} {th : Int32} {now : Int64} {cF cS : Int32} {fR fS fC fM sR sC sM : Nat → Int32} {sU : Nat → Int64} {yt : Nat → Int32}
theorem ep_yne {nF nS : Nat} (hF : nF ≤ 6) (hS : nS ≤ 4) (h : post (ep_ne (fun i => ep_any ((ep_m now fR fS fC fM sR sC sM sU) i) nF) sU nS)) :
    ∀ (d s : Nat) (x : Int64), s + d = nS → ep_ne (fun i => ep_any ((ep_m now fR fS fC fM sR sC sM sU) i) nF) sU s = x → wY_nextExpiry_6 post th now (nI nF) (nI nS) fR fS fC fM sR sC sM sU yt (d + 1) x (nI s) := by
  intro d
  induction d with
  | zero =>
    intro s x e ex
    have e' : s = nS := by omega
    rw [e'] at ex ⊢
    unfold wY_nextExpiry_6
    refine br_t (nI_le (Nat.le_refl _) (by omega)) ?_
    rw [← ex]; exact h
  | succ d ih =>
    intro s x e ex
    have hs : s < 4 := by omega
    have is : vp_in (nI s) 4 := vp_in_nI hs (by decide)
    unfold wY_nextExpiry_6
    refine br_f (nI_ge (by omega) (by omega)) ?_
    cases hu : ep_any ((ep_m now fR fS fC fM sR sC sM sU) s) nF
    · refine ep_us hF hs hu ?_
      exact br_t rfl (nm_r (nI_1 s) (ih (s + 1) x (by omega) (ep_ne_f (p := fun i => ep_any ((ep_m now fR fS fC fM sR sC sM sU) i) nF) ex hu)))
    · refine ep_us hF hs hu ?_
      refine br_f ep_b1 ⟨is, ?_⟩
      rw [nI_clamp (n := s) (by omega)]
      exact br_c (fun hl => nm_r (nI_1 s) (ih (s + 1) x (by omega) (ep_ne_le ex hl))) (fun hl => ⟨is, nm_e (nm_r (nI_1 s) (ih (s + 1) (sU s) (by omega) (ep_ne_gt (p := fun i => ep_any ((ep_m now fR fS fC fM sR sC sM sU) i) nF) ex hu hl)))⟩)
end
section
variable {th : Int32} {now : Int64} {cF cS cU : Int32} {fR fS fC fM fP sR sC sM : Nat → Int32} {sU : Nat → Int64} {sD tl : Nat → Int32}
theorem ep_ec : ∀ (d v : Nat), v + d = 3 → ∃ r : Int32, (∀ post : Int32 → Prop, post r → wX_exitCode_17 post th now cF cS cU fR fS fC fM fP sR sC sM sU sD tl (d + 1) (nI v)) ∧ (∀ (yt : Nat → Int32) (post : Int32 → SY → Prop), (∀ j, j < 4 → yt j = tl j) → post r (th, now, cF, cS, fR, fS, fC, fM, sR, sC, sM, sU, yt) → wY_exitCode_21 post th now cF cS fR fS fC fM sR sC sM sU yt (d + 1) (nI v)) := by
  intro d
  induction d with
  | zero =>
    intro v e
    have l : (3 : Int32) ≤ nI v := nI_le (a := 3) (by omega) (by omega)
    refine ⟨95, fun post hp => ?_, fun yt post h hp => ?_⟩
    · unfold wX_exitCode_17
      exact br_t l hp
    · unfold wY_exitCode_21
      exact br_t l hp
  | succ d ih =>
    intro v e
    have l : ¬ (3 : Int32) ≤ nI v := nI_ge (b := 3) (by omega) (by decide)
    have iv : vp_in (nI v) 4 := vp_in_nI (by omega) (by decide)
    have cv : (nI v).toNatClampNeg = v := nI_clamp (by omega)
    by_cases z : tl v ≤ 0
    · obtain ⟨r, hX, hY⟩ := ih (v + 1) (by omega)
      refine ⟨r, fun post hp => ?_, fun yt post h hp => ?_⟩
      · unfold wX_exitCode_17
        refine br_f l ⟨iv, ?_⟩
        rw [cv]
        exact br_t z (nm_r (nI_1 v) (hX post hp))
      · unfold wY_exitCode_21
        refine br_f l ⟨iv, ?_⟩
        rw [cv, h v (by omega)]
        exact br_t z (nm_r (nI_1 v) (hY yt post h hp))
    · refine ⟨97, fun post hp => ?_, fun yt post h hp => ?_⟩
      · unfold wX_exitCode_17
        refine br_f l ⟨iv, ?_⟩
        rw [cv]
        exact br_f z hp
      · unfold wY_exitCode_21
        refine br_f l ⟨iv, ?_⟩
        rw [cv, h v (by omega)]
        exact br_f z hp
end
end
section
/-! the relation and the owed statements -/
/-- both sides hold the same rows; X's marks and counts are what the matches say; of Y's tally nothing is asked -/
def i_Rel (_ : Nat) (u : SX) (v : SY) : Prop :=
  ∃ (t nF nS nU : Nat) (now : Int64) (fR fS fC fM fP sR sC sM : Nat → Int32) (sU : Nat → Int64) (sD tl yt : Nat → Int32),
    u = (nI t, now, nI nF, nI nS, nI nU, fR, fS, fC, fM, fP, sR, sC, sM, sU, sD, tl) ∧ v = (nI t, now, nI nF, nI nS, fR, fS, fC, fM, sR, sC, sM, sU, yt) ∧ t ≤ 3 ∧ nF ≤ 6 ∧ nS ≤ 4 ∧ ep_J (ep_m now fR fS fC fM sR sC sM sU) nF nS nU fS fP sD tl
theorem i_up {k : Nat} {u : SX} {v : SY} (h : i_Rel k u v) : i_Rel (k + 6) u v := h
theorem ep_mk {k t nF nS nU : Nat} {now : Int64} {fR fS fC fM fP sR sC sM : Nat → Int32} {sU : Nat → Int64} {sD tl yt : Nat → Int32} (ht : t ≤ 3) (hF : nF ≤ 6) (hS : nS ≤ 4) (J : ep_J (ep_m now fR fS fC fM sR sC sM sU) nF nS nU fS fP sD tl) : i_Rel k (nI t, now, nI nF, nI nS, nI nU, fR, fS, fC, fM, fP, sR, sC, sM, sU, sD, tl) (nI t, now, nI nF, nI nS, fR, fS, fC, fM, sR, sC, sM, sU, yt) :=
  ⟨t, nF, nS, nU, now, fR, fS, fC, fM, fP, sR, sC, sM, sU, sD, tl, yt, rfl, rfl, ht, hF, hS, J⟩
theorem ep_el {P : SX → SY → Prop} {k : Nat} {u : SX} {v : SY} (I : i_Rel k u v)
    (h : ∀ (t nF nS nU : Nat) (now : Int64) (fR fS fC fM fP sR sC sM : Nat → Int32) (sU : Nat → Int64) (sD tl yt : Nat → Int32), t ≤ 3 → nF ≤ 6 → nS ≤ 4 → ep_J (ep_m now fR fS fC fM sR sC sM sU) nF nS nU fS fP sD tl → P (nI t, now, nI nF, nI nS, nI nU, fR, fS, fC, fM, fP, sR, sC, sM, sU, sD, tl) (nI t, now, nI nF, nI nS, fR, fS, fC, fM, sR, sC, sM, sU, yt)) : P u v := by
  obtain ⟨t, nF, nS, nU, now, fR, fS, fC, fM, fP, sR, sC, sM, sU, sD, tl, yt, eu, ev, ht, hF, hS, J⟩ := I
  rw [eu, ev]
  exact h t nF nS nU now fR fS fC fM fP sR sC sM sU sD tl yt ht hF hS J
theorem ep_J0 (M : Nat → Nat → Bool) : ep_J M 0 0 0 (fun _ => 0) (fun _ => 0) (fun _ => 0) (fun _ => 0) :=
  ⟨fun f hf => absurd hf (Nat.not_lt_zero f), fun f hf => absurd hf (Nat.not_lt_zero f), fun f hf => absurd hf (Nat.not_lt_zero f), rfl, fun _ _ => rfl⟩
theorem ep_R0 {k t : Nat} {now : Int64} (ht : t ≤ 3) : i_Rel k (nI t, now, 0, 0, 0, (fun _ => 0), (fun _ => 0), (fun _ => 0), (fun _ => 0), (fun _ => 0), (fun _ => 0), (fun _ => 0), (fun _ => 0), (fun _ => 0), (fun _ => 0), (fun _ => 0)) (nI t, now, 0, 0, (fun _ => 0), (fun _ => 0), (fun _ => 0), (fun _ => 0), (fun _ => 0), (fun _ => 0), (fun _ => 0), (fun _ => 0), (fun _ => 0)) :=
  ep_mk (nF := 0) (nS := 0) (nU := 0) ht (by decide) (by decide) (ep_J0 _)
theorem i_vc0 (k0 : Int32) (k1 : Int64) : wpX_init (fun u => wpY_init (fun v => i_Rel 3 u v) k0 k1) k0 k1 := by
  unfold wpX_init wX_init_97 wX_init_106 wpY_init
  by_cases h0 : 0 ≤ k0
  · by_cases h3 : k0 ≤ 3
    · obtain ⟨j, hj, rfl⟩ := nI_of2 (x := k0) (M := 3) (n := 3) (by decide) (Int32.not_lt.mpr h0) h3
      exact br_t h0 (br_t h3 (br_t h0 (br_t h3 (ep_R0 hj))))
    · exact br_t h0 (br_f h3 (br_t h0 (br_f h3 (ep_R0 (t := 3) (by decide)))))
  · exact br_f h0 (br_t (by decide) (br_f h0 (ep_R0 (t := 0) (by decide))))
theorem ep_afX {post : Int32 → SX → Prop} {th : Int32} {now : Int64} {cS cU : Int32} {fR fS fC fM fP sR sC sM : Nat → Int32} {sU : Nat → Int64} {sD tl : Nat → Int32} {v1 v3 v4 : Int32} {j k : Nat} (hk : k < 6) (hj : j < 4) (h1 : ¬ v1.toInt16.toInt32 = -1) (h3 : ¬ (v3.toUInt32 % 65536).toInt32 = 65535) (h4 : ¬ (v4.toUInt32 % 65536).toInt32 = 65535)
    (K : ∃ n : Nat, wX_addFinding_117 post (nI j) (nI k) th now (nI (k + 1)) cS n 0 cU (upd fR k (vp_nar .short v1.toInt16.toInt32)) (upd fS k (nI j)) (upd fC k (vp_nar .char (v3.toUInt32 % 65536).toInt32)) (upd fM k (vp_nar .char (v4.toUInt32 % 65536).toInt32)) (upd fP k 0) sR sC sM sU sD tl) :
    wpX_addFinding post (th, now, nI k, cS, cU, fR, fS, fC, fM, fP, sR, sC, sM, sU, sD, tl) v1 (nI j) v3 v4 := by
  have ik : vp_in (nI k) 6 := vp_in_nI hk (by decide)
  have a0 : ¬ nI j < 0 := nI_pos (by omega)
  have a3 : nI j ≤ 3 := nI_le (b := 3) (by omega) (by decide)
  have a6 : nI k < 6 := nI_lt (b := 6) hk (by decide)
  unfold wpX_addFinding
  dsimp only
  rw [nI_clamp (n := k) (by omega)]
  exact br_f a0 (br_t a3 (nm_e (nm_e (br_f h1 (br_f h3 (br_f h4 (br_t a6 ⟨ik, nm_e ⟨ik, nm_e ⟨ik, nm_e ⟨ik, nm_e ⟨ik, nm_r (e' := upd fP k 0) rfl (nm_r (nI_1 k) K)⟩⟩⟩⟩⟩)))))))
theorem ep_afY {post : Int32 → SY → Prop} {th : Int32} {now : Int64} {cS : Int32} {fR fS fC fM sR sC sM : Nat → Int32} {sU : Nat → Int64} {yt : Nat → Int32} {v1 v3 v4 : Int32} {j k : Nat} (hk : k < 6) (hj : j < 4) (h1 : ¬ v1.toInt16.toInt32 = -1) (h3 : ¬ (v3.toUInt32 % 65536).toInt32 = 65535) (h4 : ¬ (v4.toUInt32 % 65536).toInt32 = 65535)
    (K : post 0 (th, now, nI (k + 1), cS, upd fR k (vp_nar .short v1.toInt16.toInt32), upd fS k (nI j), upd fC k (vp_nar .char (v3.toUInt32 % 65536).toInt32), upd fM k (vp_nar .char (v4.toUInt32 % 65536).toInt32), sR, sC, sM, sU, yt)) :
    wpY_addFinding post (th, now, nI k, cS, fR, fS, fC, fM, sR, sC, sM, sU, yt) v1 (nI j) v3 v4 := by
  have ik : vp_in (nI k) 6 := vp_in_nI hk (by decide)
  have a0 : ¬ nI j < 0 := nI_pos (by omega)
  have a3 : nI j ≤ 3 := nI_le (b := 3) (by omega) (by decide)
  have a6 : nI k < 6 := nI_lt (b := 6) hk (by decide)
  unfold wpY_addFinding
  dsimp only
  rw [nI_clamp (n := k) (by omega), ep_by j hj]
  exact nm_e (nm_e (br_f a0 (br_t a3 (br_f h1 (br_f h3 (br_f h4 (br_t a6 ⟨ik, nm_e ⟨ik, nm_e ⟨ik, nm_e (nm_r (nI_1 k) ⟨ik, nm_e K⟩)⟩⟩⟩)))))))
theorem ep_afR {th : Int32} {now : Int64} {cS cU : Int32} {fR fS fC fM fP sR sC sM : Nat → Int32} {sU : Nat → Int64} {sD tl : Nat → Int32} {yt : Nat → Int32} {v1 v2 v3 v4 : Int32} {k : Nat} (hk : k ≤ 6) :
    (∃ r : Int32, (∀ post : Int32 → SX → Prop, post r (th, now, nI k, cS, cU, fR, fS, fC, fM, fP, sR, sC, sM, sU, sD, tl) → wpX_addFinding post (th, now, nI k, cS, cU, fR, fS, fC, fM, fP, sR, sC, sM, sU, sD, tl) v1 v2 v3 v4) ∧ (∀ post : Int32 → SY → Prop, post r (th, now, nI k, cS, fR, fS, fC, fM, sR, sC, sM, sU, yt) → wpY_addFinding post (th, now, nI k, cS, fR, fS, fC, fM, sR, sC, sM, sU, yt) v1 v2 v3 v4)) ∨
    (∃ j : Nat, j < 4 ∧ v2 = nI j ∧ k < 6 ∧ ¬ v1.toInt16.toInt32 = -1 ∧ ¬ (v3.toUInt32 % 65536).toInt32 = 65535 ∧ ¬ (v4.toUInt32 % 65536).toInt32 = 65535) := by
  unfold wpX_addFinding wpY_addFinding
  dsimp only
  by_cases a0 : v2 < 0
  · exact Or.inl ⟨2, fun post h => br_t a0 h, fun post h => nm_e (nm_e (br_t a0 h))⟩
  by_cases a3 : v2 ≤ 3
  · by_cases h1 : v1.toInt16.toInt32 = -1
    · exact Or.inl ⟨3, fun post h => br_f a0 (br_t a3 (nm_e (nm_e (br_t h1 h)))), fun post h => nm_e (nm_e (br_f a0 (br_t a3 (br_t h1 h))))⟩
    by_cases h3 : (v3.toUInt32 % 65536).toInt32 = 65535
    · exact Or.inl ⟨3, fun post h => br_f a0 (br_t a3 (nm_e (nm_e (br_f h1 (br_t h3 h))))), fun post h => nm_e (nm_e (br_f a0 (br_t a3 (br_f h1 (br_t h3 h)))))⟩
    by_cases h4 : (v4.toUInt32 % 65536).toInt32 = 65535
    · exact Or.inl ⟨3, fun post h => br_f a0 (br_t a3 (nm_e (nm_e (br_f h1 (br_f h3 (br_t h4 h)))))), fun post h => nm_e (nm_e (br_f a0 (br_t a3 (br_f h1 (br_f h3 (br_t h4 h))))))⟩
    rcases Nat.lt_or_ge k 6 with hk6 | hk6
    · obtain ⟨j, hj, e⟩ := nI_of2 (x := v2) (M := 3) (n := 3) (by decide) a0 a3
      exact Or.inr ⟨j, by omega, e, hk6, h1, h3, h4⟩
    · have a6 : ¬ nI k < 6 := nI_nlt (b := 6) hk6 (by omega)
      exact Or.inl ⟨1, fun post h => br_f a0 (br_t a3 (nm_e (nm_e (br_f h1 (br_f h3 (br_f h4 (br_f a6 h))))))), fun post h => nm_e (nm_e (br_f a0 (br_t a3 (br_f h1 (br_f h3 (br_f h4 (br_f a6 h)))))))⟩
  · exact Or.inl ⟨2, fun post h => br_f a0 (br_f a3 h), fun post h => nm_e (nm_e (br_f a0 (br_f a3 h)))⟩
theorem i_vc_addFinding {k : Nat} {u : SX} {v : SY} (I : i_Rel k u v) (hk : k + 6 ≤ 3075) (v1 : Int32) (v2 : Int32) (v3 : Int32) (v4 : Int32) : wpX_addFinding (fun r u' => wpY_addFinding (fun r' v' => r' = r ∧ i_Rel (k + 6) u' v') v v1 v2 v3 v4) u v1 v2 v3 v4 := by
  refine ep_el (P := fun u v => wpX_addFinding (fun r u' => wpY_addFinding (fun r' v' => r' = r ∧ i_Rel (k + 6) u' v') v v1 v2 v3 v4) u v1 v2 v3 v4) I ?_
  intro t nF nS nU now fR fS fC fM fP sR sC sM sU sD tl yt ht hF hS J
  rcases ep_afR (th := nI t) (now := now) (cS := nI nS) (cU := nI nU) (fR := fR) (fS := fS) (fC := fC) (fM := fM) (fP := fP) (sR := sR) (sC := sC) (sM := sM) (sU := sU) (sD := sD) (tl := tl) (yt := yt) (v1 := v1) (v2 := v2) (v3 := v3) (v4 := v4) hF with ⟨r, hX, hY⟩ | ⟨j, hj, ej, h6, h1, h3, h4⟩
  · refine hX _ ?_
    refine hY _ ?_
    exact ⟨rfl, ep_mk ht hF hS J⟩
  · rw [ej]
    have hM : ∀ s g, g ≠ nF → (ep_m now (upd fR nF (vp_nar .short v1.toInt16.toInt32)) (upd fS nF (nI j)) (upd fC nF (vp_nar .char (v3.toUInt32 % 65536).toInt32)) (upd fM nF (vp_nar .char (v4.toUInt32 % 65536).toInt32)) sR sC sM sU) s g = (ep_m now fR fS fC fM sR sC sM sU) s g := fun s g h => ep_m_f s g h
    have cj : (nI j).toNatClampNeg = j := nI_clamp (by omega)
    refine ep_afX h6 hj h1 h3 h4 ⟨nS + 1, ?_⟩
    refine ep_afL hS h6 (vp_in_nI hj (by decide)) ?_ nS 0 nU (upd fP nF 0) sD (by omega) (ep_FU_0 hM J) ep_FP_0
    intro nU' fP' sD' A B
    rw [cj]
    refine ⟨fun z => ?_, fun z => ?_⟩
    · exact ep_afY h6 hj h1 h3 h4 ⟨rfl, ep_mk ht (by omega) hS (ep_J_af hj hM J A B (Or.inl ⟨z, rfl⟩))⟩
    · exact ep_afY h6 hj h1 h3 h4 ⟨rfl, ep_mk ht (by omega) hS (ep_J_af hj hM J A B (Or.inr ⟨z, rfl⟩))⟩
theorem ep_asX {post : Int32 → SX → Prop} {th : Int32} {now : Int64} {cF cU : Int32} {fR fS fC fM fP sR sC sM : Nat → Int32} {sU : Nat → Int64} {sD tl : Nat → Int32} {v1 v2 v3 : Int32} {a3 : Int64} {k : Nat} (hk : k < 4)
    (K : ∃ n : Nat, wX_addSuppression_71 post (nI k) th now cF (nI (k + 1)) n 0 cU fR fS fC fM fP (upd sR k (vp_nar .short v1.toInt16.toInt32)) (upd sC k (vp_nar .char (v2.toUInt32 % 65536).toInt32)) (upd sM k (vp_nar .char (v3.toUInt32 % 65536).toInt32)) (vp_updL sU k a3) (upd sD k 0) tl) :
    wpX_addSuppression post (th, now, cF, nI k, cU, fR, fS, fC, fM, fP, sR, sC, sM, sU, sD, tl) v1 v2 v3 a3 := by
  have ik : vp_in (nI k) 4 := vp_in_nI hk (by decide)
  have a4 : nI k < 4 := nI_lt (b := 4) hk (by decide)
  unfold wpX_addSuppression
  dsimp only
  rw [nI_clamp (n := k) (by omega)]
  exact br_t a4 ⟨ik, nm_e ⟨ik, nm_e ⟨ik, nm_e ⟨ik, nm_e ⟨ik, nm_r (e' := upd sD k 0) rfl (nm_r (nI_1 k) K)⟩⟩⟩⟩⟩
theorem ep_asY {post : Int32 → SY → Prop} {th : Int32} {now : Int64} {cF : Int32} {fR fS fC fM sR sC sM : Nat → Int32} {sU : Nat → Int64} {yt : Nat → Int32} {v1 v2 v3 : Int32} {a3 : Int64} {k : Nat} (hk : k < 4)
    (K : post 0 (th, now, cF, nI (k + 1), fR, fS, fC, fM, upd sR k (vp_nar .short v1.toInt16.toInt32), upd sC k (vp_nar .char (v2.toUInt32 % 65536).toInt32), upd sM k (vp_nar .char (v3.toUInt32 % 65536).toInt32), vp_updL sU k a3, yt)) :
    wpY_addSuppression post (th, now, cF, nI k, fR, fS, fC, fM, sR, sC, sM, sU, yt) v1 v2 v3 a3 := by
  have ik : vp_in (nI k) 4 := vp_in_nI hk (by decide)
  have a4 : nI k < 4 := nI_lt (b := 4) hk (by decide)
  unfold wpY_addSuppression
  dsimp only
  rw [nI_clamp (n := k) (by omega)]
  exact br_t a4 ⟨ik, nm_e ⟨ik, nm_e ⟨ik, nm_e (nm_r (nI_1 k) ⟨ik, nm_e K⟩)⟩⟩⟩
theorem ep_asX1 {post : Int32 → SX → Prop} {th : Int32} {now : Int64} {cF cS cU : Int32} {fR fS fC fM fP sR sC sM : Nat → Int32} {sU : Nat → Int64} {sD tl : Nat → Int32} {v1 v2 v3 : Int32} {a3 : Int64} (h : ¬ cS < 4) (K : post 1 (th, now, cF, cS, cU, fR, fS, fC, fM, fP, sR, sC, sM, sU, sD, tl)) : wpX_addSuppression post (th, now, cF, cS, cU, fR, fS, fC, fM, fP, sR, sC, sM, sU, sD, tl) v1 v2 v3 a3 := by
  unfold wpX_addSuppression
  exact br_f h K
theorem ep_asY1 {post : Int32 → SY → Prop} {th : Int32} {now : Int64} {cF cS : Int32} {fR fS fC fM sR sC sM : Nat → Int32} {sU : Nat → Int64} {yt : Nat → Int32} {v1 v2 v3 : Int32} {a3 : Int64} (h : ¬ cS < 4) (K : post 1 (th, now, cF, cS, fR, fS, fC, fM, sR, sC, sM, sU, yt)) : wpY_addSuppression post (th, now, cF, cS, fR, fS, fC, fM, sR, sC, sM, sU, yt) v1 v2 v3 a3 := by
  unfold wpY_addSuppression
  exact br_f h K
theorem i_vc_addSuppression {k : Nat} {u : SX} {v : SY} (I : i_Rel k u v) (hk : k + 6 ≤ 3075) (v1 : Int32) (v2 : Int32) (v3 : Int32) (a3 : Int64) : wpX_addSuppression (fun r u' => wpY_addSuppression (fun r' v' => r' = r ∧ i_Rel (k + 6) u' v') v v1 v2 v3 a3) u v1 v2 v3 a3 := by
  refine ep_el (P := fun u v => wpX_addSuppression (fun r u' => wpY_addSuppression (fun r' v' => r' = r ∧ i_Rel (k + 6) u' v') v v1 v2 v3 a3) u v1 v2 v3 a3) I ?_
  intro t nF nS nU now fR fS fC fM fP sR sC sM sU sD tl yt ht hF hS J
  rcases Nat.lt_or_ge nS 4 with h4 | h4
  · have hM : ∀ s g, s ≠ nS → (ep_m now fR fS fC fM (upd sR nS (vp_nar .short v1.toInt16.toInt32)) (upd sC nS (vp_nar .char (v2.toUInt32 % 65536).toInt32)) (upd sM nS (vp_nar .char (v3.toUInt32 % 65536).toInt32)) (vp_updL sU nS a3)) s g = (ep_m now fR fS fC fM sR sC sM sU) s g := fun s g h => ep_m_s s g h
    refine ep_asX h4 ⟨nF + 1, ?_⟩
    refine ep_asL hF h4 J.1 ?_ nF 0 nU fP (upd sD nS 0) tl (by omega) (ep_SU_0 J) (ep_SP_0 hM J)
    intro nU' fP' sD' tl' A B
    exact ep_asY h4 ⟨rfl, ep_mk ht hF (by omega) (ep_J_as hM J A B)⟩
  · have a4 : ¬ nI nS < 4 := nI_nlt (b := 4) h4 (by omega)
    refine ep_asX1 a4 ?_
    refine ep_asY1 a4 ?_
    exact ⟨rfl, ep_mk ht hF hS J⟩
theorem i_vc_effectiveCount {k : Nat} {u : SX} {v : SY} (I : i_Rel k u v) (hk : k + 6 ≤ 3075) (v1 : Int32) : wpX_effectiveCount (fun r => wpY_effectiveCount (fun r' v' => r' = r ∧ i_Rel (k + 6) u v') v v1) u v1 := by
  refine ep_el (P := fun u v => wpX_effectiveCount (fun r => wpY_effectiveCount (fun r' v' => r' = r ∧ i_Rel (k + 6) u v') v v1) u v1) I ?_
  intro t nF nS nU now fR fS fC fM fP sR sC sM sU sD tl yt ht hF hS J
  unfold wpX_effectiveCount wpY_effectiveCount
  dsimp only
  by_cases a0 : v1 < 0
  · exact br_t a0 (br_t a0 ⟨rfl, ep_mk ht hF hS J⟩)
  by_cases a3 : v1 ≤ 3
  · obtain ⟨j, hj, rfl⟩ := nI_of2 (x := v1) (M := 3) (n := 3) (by decide) a0 a3
    have ij : vp_in (nI j) 4 := vp_in_nI (by omega) (by decide)
    refine br_f a0 (br_t a3 ⟨ij, ?_⟩)
    refine br_f a0 (br_t a3 ?_)
    refine ep_rc hF hS J.1 ?_
    intro yt' hT
    refine ⟨ij, ?_, ep_mk ht hF hS J⟩
    dsimp only
    rw [nI_clamp (n := j) (by omega), hT j (by omega), ep_J_t J j (by omega)]
  · exact br_f a0 (br_f a3 (br_f a0 (br_f a3 ⟨rfl, ep_mk ht hF hS J⟩)))
theorem i_vc_unusedSuppressions {k : Nat} {u : SX} {v : SY} (I : i_Rel k u v) (hk : k + 6 ≤ 3075) : wpX_unusedSuppressions (fun r => wpY_unusedSuppressions (fun r' => r' = r ∧ i_Rel (k + 6) u v) v) u := by
  refine ep_el (P := fun u v => wpX_unusedSuppressions (fun r => wpY_unusedSuppressions (fun r' => r' = r ∧ i_Rel (k + 6) u v) v) u) I ?_
  intro t nF nS nU now fR fS fC fM fP sR sC sM sU sD tl yt ht hF hS J
  unfold wpX_unusedSuppressions wpY_unusedSuppressions
  dsimp only
  exact ⟨nS + 1, ep_un hF hS ⟨(ep_J_u J).symm, ep_mk ht hF hS J⟩ nS 0 (by omega)⟩
theorem i_vc_nextExpiry {k : Nat} {u : SX} {v : SY} (I : i_Rel k u v) (hk : k + 6 ≤ 3075) : wpX_nextExpiry (fun r => wpY_nextExpiry (fun r' => r' = r ∧ i_Rel (k + 6) u v) v) u := by
  refine ep_el (P := fun u v => wpX_nextExpiry (fun r => wpY_nextExpiry (fun r' => r' = r ∧ i_Rel (k + 6) u v) v) u) I ?_
  intro t nF nS nU now fR fS fC fM fP sR sC sM sU sD tl yt ht hF hS J
  unfold wpX_nextExpiry wpY_nextExpiry
  dsimp only
  refine ⟨nS + 1, ?_⟩
  refine ep_xne (p := fun i => ep_any ((ep_m now fR fS fC fM sR sC sM sU) i) nF) hS J.2.2.1 ?_ nS 0 _ (by omega) rfl
  refine ⟨nS + 1, ?_⟩
  refine ep_yne hF hS ?_ nS 0 _ (by omega) rfl
  exact ⟨rfl, ep_mk ht hF hS J⟩
theorem i_vc_exitCode {k : Nat} {u : SX} {v : SY} (I : i_Rel k u v) (hk : k + 6 ≤ 3075) : wpX_exitCode (fun r => wpY_exitCode (fun r' v' => r' = r ∧ i_Rel (k + 6) u v') v) u := by
  refine ep_el (P := fun u v => wpX_exitCode (fun r => wpY_exitCode (fun r' v' => r' = r ∧ i_Rel (k + 6) u v') v) u) I ?_
  intro t nF nS nU now fR fS fC fM fP sR sC sM sU sD tl yt ht hF hS J
  unfold wpX_exitCode wpY_exitCode
  dsimp only
  have T : ∀ yt' : Nat → Int32, (∀ j, j < 4 → yt' j = nI (ep_cnt (fun g => decide (fS g = nI j) && !ep_any (fun s => (ep_m now fR fS fC fM sR sC sM sU) s g) nS) nF)) → ∀ j, j < 4 → yt' j = tl j := fun yt' h j hj => (h j hj).trans (ep_J_t J j hj)
  by_cases z : tl 3 ≤ 0
  · obtain ⟨r, hX, hY⟩ := ep_ec (th := nI t) (now := now) (cF := nI nF) (cS := nI nS) (cU := nI nU) (fR := fR) (fS := fS) (fC := fC) (fM := fM) (fP := fP) (sR := sR) (sC := sC) (sM := sM) (sU := sU) (sD := sD) (tl := tl) (3 - t) t (by omega)
    refine br_t z ⟨_, hX _ ?_⟩
    refine ep_rc hF hS J.1 ?_
    intro yt' hT
    have z' : yt' 3 ≤ 0 := by
      rw [T yt' hT 3 (by decide)]; exact z
    exact br_t z' ⟨_, hY yt' _ (T yt' hT) ⟨rfl, ep_mk ht hF hS J⟩⟩
  · refine br_f z ?_
    refine ep_rc hF hS J.1 ?_
    intro yt' hT
    have z' : ¬ yt' 3 ≤ 0 := by
      rw [T yt' hT 3 (by decide)]; exact z
    exact br_f z' ⟨rfl, ep_mk ht hF hS J⟩
end
