section
/-! THE PLAIN LAW: what a run computes, said once by recursion (the class), once as a machine over a stack of lifts (the reference); the machine comes where the recursion comes -/
section HPP
/-- of a run: total, begun, mostRopes, how many failures were made (nobody reads it), the notes, latest first -/
abbrev hp_S : Type := Int32 × Nat × Nat × Nat × List Int32
/-- a failure: its first kind, the racks of the spills around it, outermost first -/
abbrev hp_X : Type := Nat × List Nat
abbrev hp_R : Type := Option hp_X × hp_S
def hp_wr (n : Int32) (σ : hp_S) : hp_S := (σ.1, σ.2.1, σ.2.2.1, σ.2.2.2.1, n :: σ.2.2.2.2)
def hp_add (x : Int32) (σ : hp_S) : hp_S := (σ.1 + x, σ.2)
def hp_beg (σ : hp_S) : hp_S := (σ.1, σ.2.1 + 1, σ.2.2)
def hp_mrs (d : Nat) (σ : hp_S) : hp_S := (σ.1, σ.2.1, (if σ.2.2.1 < d then d else σ.2.2.1), σ.2.2.2)
def hp_exc (σ : hp_S) : hp_S := (σ.1, σ.2.1, σ.2.2.1, σ.2.2.2.1 + 1, σ.2.2.2.2)
def hp_cl (σ : hp_S) : hp_S := hp_wr (-2) (hp_wr (-3) σ)
def hp_bg (σ : hp_S) : Nat := σ.2.1
def hp_ex (σ : hp_S) : Nat := σ.2.2.2.1
def hp_n (σ : hp_S) : Nat := σ.2.2.2.2.length
def hp_code (x : hp_X) : Nat := if x.2 = [] then x.1 else 5
/-- a cell that may stand in a rack -/
abbrev hp_ok (c : Int32) : Prop := (1 ≤ c ∧ c ≤ 999) ∨ (-4 ≤ c ∧ c ≤ -1) ∨ (-15 ≤ c ∧ c ≤ -10) ∨ (1000 ≤ c ∧ c ≤ 1007) ∨ (2000 ≤ c ∧ c ≤ 2007) ∨ (3000 ≤ c ∧ c ≤ 3007)
/-- work(c), by what lifting does -/
def hp_work (lf : Nat → hp_S → hp_R) (h : Nat → Int32) (ta lo : Int32) (c : Int32) (σ : hp_S) : hp_R :=
  if 3000 ≤ c then
    (match lf (c - 3000).toNatClampNeg σ with
    | (none, τ) => (none, τ)
    | (some x, τ) => if x.1 = 7 then (some x, τ) else (none, hp_add (nI (hp_code x)) (hp_wr 7 τ)))
  else if 2000 ≤ c then
    (match lf (c - 2000).toNatClampNeg σ with
    | (none, τ) => (none, τ)
    | (some x, τ) => if x.1 = 7 then (some x, τ) else (some (x.1, (c - 2000).toNatClampNeg :: x.2), hp_exc τ))
  else if 1000 ≤ c then lf (c - 1000).toNatClampNeg σ
  else if 0 < c then (if c - ta = 0 then (some (2, []), hp_exc σ) else (none, hp_add (lo / (c - ta)) σ))
  else if c = -1 then (some (1, []), hp_exc σ)
  else if 3 < (-10 - c).toNatClampNeg then (some (4, []), hp_exc σ)
  else if h (-10 - c).toNatClampNeg = 0 then (some (3, []), hp_exc σ)
  else (none, hp_add (h (-10 - c).toNatClampNeg) σ)
/-- the cells from k on, so many of them: none: all are done, or it was left by -2; some none: it was left by -4; some (some x): x came -/
def hp_loop (wk : Int32 → hp_S → hp_R) (C : Nat → Int32) : Nat → Nat → hp_S → Option (Option hp_X) × hp_S
  | 0, _, σ => (none, σ)
  | n + 1, k, σ =>
    if hp_bg σ = 300 then (some (some (7, [])), hp_cl (hp_exc (hp_wr 3 (hp_wr 2 σ))))
    else if C k = -2 then (none, hp_cl (hp_beg (hp_wr 3 (hp_wr 2 σ))))
    else if C k = -3 then hp_loop wk C n (k + 1) (hp_cl (hp_beg (hp_wr 3 (hp_wr 2 σ))))
    else if C k = -4 then (some none, hp_cl (hp_beg (hp_wr 3 (hp_wr 2 σ))))
    else match wk (C k) (hp_beg (hp_wr 3 (hp_wr 2 σ))) with
      | (none, τ) => hp_loop wk C n (k + 1) (hp_wr 5 (hp_cl τ))
      | (some x, τ) => (some (some x), hp_cl τ)
def hp_end (q : Option (Option hp_X) × hp_S) : hp_R := match q with
  | (none, τ) => (none, hp_wr (-1) (hp_add 1 (hp_wr 4 τ)))
  | (some none, τ) => (none, hp_wr (-1) τ)
  | (some (some x), τ) => (some x, hp_wr (-1) τ)
/-- lift(r), with n lifts more allowed -/
def hp_lift (M : Nat → Nat) (C : Nat → Nat → Int32) (h : Nat → Int32) (ta lo : Int32) : Nat → Nat → hp_S → hp_R
  | 0, _, σ => (some (6, []), hp_exc σ)
  | n + 1, r, σ => hp_end (hp_loop (hp_work (hp_lift M C h ta lo n) h ta lo) (C r) (M r) 0 (hp_wr 1 (hp_mrs (6 - n) σ)))
/-! the reference's machine -/
abbrev hp_T : Type := hp_S × List (Nat × Nat) × Option hp_X
/-- a lift has ended well, its -1 is written -/
def hp_ret (l : List (Nat × Nat)) (σ : hp_S) : hp_T := match l with
  | [] => (σ, [], none)
  | (r, k) :: l => (hp_wr 5 (hp_cl σ), (r, k + 1) :: l, none)
/-- a failure comes out of the lift that the cell on top of l has made -/
def hp_res (C : Nat → Nat → Int32) : List (Nat × Nat) → hp_X → hp_S → hp_T
  | [], x, σ => (σ, [], some x)
  | (r, k) :: l, x, σ =>
    if x.1 = 7 ∨ C r k < 2000 then hp_res C l x (hp_wr (-1) (hp_cl σ))
    else if C r k < 3000 then hp_res C l (x.1, (C r k - 2000).toNatClampNeg :: x.2) (hp_wr (-1) (hp_cl (hp_exc σ)))
    else (hp_wr 5 (hp_cl (hp_add (nI (hp_code x)) (hp_wr 7 σ))), (r, k + 1) :: l, none)
def hp_up (C : Nat → Nat → Int32) (l : List (Nat × Nat)) (x : hp_X) (σ : hp_S) : hp_T := hp_res C l x (hp_wr (-1) (hp_cl σ))
def hp_doc (C : Nat → Nat → Int32) (h : Nat → Int32) (ta lo : Int32) (r k : Nat) (l : List (Nat × Nat)) (σ : hp_S) : hp_T :=
  if hp_bg σ = 300 then hp_up C l (7, []) (hp_exc (hp_wr 3 (hp_wr 2 σ)))
  else if 1000 ≤ C r k then
    (if l.length + 1 < 6 then (hp_wr 1 (hp_mrs (l.length + 2) (hp_beg (hp_wr 3 (hp_wr 2 σ)))), ((C r k).toNatClampNeg % 1000, 0) :: (r, k) :: l, none)
    else hp_res C ((r, k) :: l) (6, []) (hp_exc (hp_beg (hp_wr 3 (hp_wr 2 σ)))))
  else if 0 < C r k then
    (if C r k = ta then hp_up C l (2, []) (hp_exc (hp_beg (hp_wr 3 (hp_wr 2 σ))))
    else (hp_wr 5 (hp_cl (hp_add (lo / (C r k - ta)) (hp_beg (hp_wr 3 (hp_wr 2 σ))))), (r, k + 1) :: l, none))
  else if C r k < -9 then
    (if 3 < (-10 - C r k).toNatClampNeg then hp_up C l (4, []) (hp_exc (hp_beg (hp_wr 3 (hp_wr 2 σ))))
    else if h (-10 - C r k).toNatClampNeg = 0 then hp_up C l (3, []) (hp_exc (hp_beg (hp_wr 3 (hp_wr 2 σ))))
    else (hp_wr 5 (hp_cl (hp_add (h (-10 - C r k).toNatClampNeg) (hp_beg (hp_wr 3 (hp_wr 2 σ))))), (r, k + 1) :: l, none))
  else if C r k = -1 then hp_up C l (1, []) (hp_exc (hp_beg (hp_wr 3 (hp_wr 2 σ))))
  else if C r k = -2 then hp_ret l (hp_wr (-1) (hp_add 1 (hp_wr 4 (hp_cl (hp_beg (hp_wr 3 (hp_wr 2 σ)))))))
  else if C r k = -3 then (hp_cl (hp_beg (hp_wr 3 (hp_wr 2 σ))), (r, k + 1) :: l, none)
  else hp_ret l (hp_wr (-1) (hp_cl (hp_beg (hp_wr 3 (hp_wr 2 σ)))))
def hp_step (M : Nat → Nat) (C : Nat → Nat → Int32) (h : Nat → Int32) (ta lo : Int32) (t : hp_T) : hp_T := match t with
  | (σ, [], o) => (σ, [], o)
  | (σ, (r, k) :: l, _) => if k = M r then hp_ret l (hp_wr (-1) (hp_add 1 (hp_wr 4 σ))) else hp_doc C h ta lo r k l σ
def hp_it (M : Nat → Nat) (C : Nat → Nat → Int32) (h : Nat → Int32) (ta lo : Int32) : Nat → hp_T → hp_T
  | 0, t => t
  | n + 1, t => hp_it M C h ta lo n (hp_step M C h ta lo t)
def hp_to (M : Nat → Nat) (C : Nat → Nat → Int32) (h : Nat → Int32) (ta lo : Int32) (t u : hp_T) : Prop := ∃ n, hp_it M C h ta lo n t = u
variable {M : Nat → Nat} {C : Nat → Nat → Int32} {h : Nat → Int32} {ta lo : Int32}
theorem hp_it_add (n m : Nat) (t : hp_T) : hp_it M C h ta lo (n + m) t = hp_it M C h ta lo m (hp_it M C h ta lo n t) := by
  induction n generalizing t with
  | zero => rw [Nat.zero_add]; rfl
  | succ n ih => rw [Nat.succ_add]; exact ih _
theorem hp_to.rf {t : hp_T} : hp_to M C h ta lo t t := ⟨0, rfl⟩
theorem hp_to.tr {t u v : hp_T} (h1 : hp_to M C h ta lo t u) (h2 : hp_to M C h ta lo u v) : hp_to M C h ta lo t v := by
  obtain ⟨n, h1⟩ := h1
  obtain ⟨m, h2⟩ := h2
  exact ⟨n + m, by rw [hp_it_add, h1, h2]⟩
theorem hp_to.one {t u : hp_T} (h1 : hp_step M C h ta lo t = u) : hp_to M C h ta lo t u := ⟨1, h1⟩
def hp_cont (C : Nat → Nat → Int32) (l : List (Nat × Nat)) (q : hp_R) : hp_T := match q with
  | (none, σ) => hp_ret l σ
  | (some x, σ) => hp_res C l x σ
def hp_wcont (C : Nat → Nat → Int32) (r k : Nat) (l : List (Nat × Nat)) (q : hp_R) : hp_T := match q with
  | (none, σ) => (hp_wr 5 (hp_cl σ), (r, k + 1) :: l, none)
  | (some x, σ) => hp_res C l x (hp_wr (-1) (hp_cl σ))
/-! numbers of cells -/
theorem hp_lt {a b : Int32} : a < b ↔ a.toInt < b.toInt := Int32.lt_iff_toInt_lt
theorem hp_le {a b : Int32} : a ≤ b ↔ a.toInt ≤ b.toInt := Int32.le_iff_toInt_le
theorem hp_inj {a b : Int32} (e : a.toInt = b.toInt) : a = b := Int32.toInt_inj.mp e
theorem hp_ne {a b : Int32} : a ≠ b ↔ a.toInt ≠ b.toInt := not_congr Int32.toInt_inj.symm
theorem hp_eq {a b : Int32} : a = b ↔ a.toInt = b.toInt := Int32.toInt_inj.symm
theorem hp_ok_int {c : Int32} (hc : hp_ok c) : (1 ≤ c.toInt ∧ c.toInt ≤ 999) ∨ (-4 ≤ c.toInt ∧ c.toInt ≤ -1) ∨ (-15 ≤ c.toInt ∧ c.toInt ≤ -10) ∨ (1000 ≤ c.toInt ∧ c.toInt ≤ 1007) ∨ (2000 ≤ c.toInt ∧ c.toInt ≤ 2007) ∨ (3000 ≤ c.toInt ∧ c.toInt ≤ 3007) := by
  unfold hp_ok at hc
  simp only [hp_le] at hc
  exact hc
theorem hp_sub_int {c : Int32} {z : Int32} (hc : -20000 ≤ c.toInt ∧ c.toInt ≤ 20000) (hz : -20000 ≤ z.toInt ∧ z.toInt ≤ 20000) : (c - z).toInt = c.toInt - z.toInt := by
  rw [Int32.toInt_sub]
  simp only [Int.bmod_def]
  omega
theorem hp_rack {c : Int32} (hc : hp_ok c) (h1 : 1000 ≤ c) :
    (3000 ≤ c → (c - 3000).toNatClampNeg = c.toNatClampNeg % 1000 ∧ c.toNatClampNeg % 1000 < 8) ∧ (¬ 3000 ≤ c → 2000 ≤ c → (c - 2000).toNatClampNeg = c.toNatClampNeg % 1000 ∧ c.toNatClampNeg % 1000 < 8) ∧ (¬ 3000 ≤ c → ¬ 2000 ≤ c → (c - 1000).toNatClampNeg = c.toNatClampNeg % 1000 ∧ c.toNatClampNeg % 1000 < 8) := by
  have hi := hp_ok_int hc
  simp only [hp_le] at h1 ⊢
  have e1 : (1000 : Int32).toInt = 1000 := by decide
  have e2 : (2000 : Int32).toInt = 2000 := by decide
  have e3 : (3000 : Int32).toInt = 3000 := by decide
  rw [e1] at h1
  rw [e2, e3]
  have s1 := hp_sub_int (c := c) (z := 1000) (by omega) (by rw [e1]; omega)
  have s2 := hp_sub_int (c := c) (z := 2000) (by omega) (by rw [e2]; omega)
  have s3 := hp_sub_int (c := c) (z := 3000) (by omega) (by rw [e3]; omega)
  rw [e1] at s1
  rw [e2] at s2
  rw [e3] at s3
  have t : c.toNatClampNeg = c.toInt.toNat := rfl
  have t1 : (c - 1000).toNatClampNeg = (c - 1000).toInt.toNat := rfl
  have t2 : (c - 2000).toNatClampNeg = (c - 2000).toInt.toNat := rfl
  have t3 : (c - 3000).toNatClampNeg = (c - 3000).toInt.toNat := rfl
  rw [t, t1, t2, t3, s1, s2, s3]
  omega
/-! the simulation -/
/-- behind the lift that a cell makes: what the cell's work says -/
theorem hp_after {lf : Nat → hp_S → hp_R} {r k : Nat} {l : List (Nat × Nat)} {σ : hp_S} (hc : hp_ok (C r k)) (h1 : 1000 ≤ C r k) :
    hp_cont C ((r, k) :: l) (lf ((C r k).toNatClampNeg % 1000) σ) = hp_wcont C r k l (hp_work lf h ta lo (C r k) σ) := by
  obtain ⟨p3, p2, p1⟩ := hp_rack hc h1
  unfold hp_work
  by_cases h3 : 3000 ≤ C r k
  · rw [if_pos h3, (p3 h3).1]
    have n2 : ¬ C r k < 2000 := by rw [hp_lt]; rw [hp_le] at h3; have e2 : (2000 : Int32).toInt = 2000 := (by decide); have e3 : (3000 : Int32).toInt = 3000 := (by decide); omega
    have n3 : ¬ C r k < 3000 := by rw [hp_lt]; rw [hp_le] at h3; omega
    cases hq : lf ((C r k).toNatClampNeg % 1000) σ with
    | mk o τ =>
      cases o with
      | none => simp [hp_cont, hp_wcont, hp_ret]
      | some x =>
        by_cases h7 : x.1 = 7
        · simp [hp_cont, hp_wcont, hp_res, h7]
        · simp [hp_cont, hp_wcont, hp_res, h7, n2, n3]
  · rw [if_neg h3]
    have n3 : C r k < 3000 := by rw [hp_lt]; rw [hp_le] at h3; omega
    by_cases h2 : 2000 ≤ C r k
    · rw [if_pos h2, (p2 h3 h2).1]
      have n2 : ¬ C r k < 2000 := by rw [hp_lt]; rw [hp_le] at h2; omega
      cases hq : lf ((C r k).toNatClampNeg % 1000) σ with
      | mk o τ =>
        cases o with
        | none => simp [hp_cont, hp_wcont, hp_ret]
        | some x =>
          by_cases h7 : x.1 = 7
          · simp [hp_cont, hp_wcont, hp_res, h7]
          · simp [hp_cont, hp_wcont, hp_res, h7, n2, n3, (p2 h3 h2).1]
    · rw [if_neg h2, if_pos h1, (p1 h3 h2).1]
      have n2 : C r k < 2000 := by rw [hp_lt]; rw [hp_le] at h2; omega
      cases hq : lf ((C r k).toNatClampNeg % 1000) σ with
      | mk o τ =>
        cases o with
        | none => simp [hp_cont, hp_wcont, hp_ret]
        | some x => simp [hp_cont, hp_wcont, hp_res, n2]
def hp_lcont (C : Nat → Nat → Int32) (l : List (Nat × Nat)) (q : Option (Option hp_X) × hp_S) : hp_T := hp_cont C l (hp_end q)
theorem hp_sim_loop {n r : Nat} {l : List (Nat × Nat)} (hn : l.length + 1 + n = 6) (hC : ∀ r k, r < 8 → k < M r → hp_ok (C r k)) (hr : r < 8)
    (ih : ∀ (σ : hp_S) (k rr : Nat), rr < 8 → n ≠ 0 → hp_to M C h ta lo (hp_wr 1 (hp_mrs (l.length + 2) σ), (rr, 0) :: (r, k) :: l, none) (hp_cont C ((r, k) :: l) (hp_lift M C h ta lo n rr σ))) :
    ∀ (rem k : Nat) (σ : hp_S), k + rem = M r → hp_to M C h ta lo (σ, (r, k) :: l, none) (hp_lcont C l (hp_loop (hp_work (hp_lift M C h ta lo n) h ta lo) (C r) rem k σ)) := by
  intro rem
  induction rem with
  | zero =>
    intro k σ hk
    refine hp_to.one ?_
    have hk' : k = M r := by omega
    simp [hp_step, hk', hp_loop, hp_lcont, hp_end, hp_cont]
  | succ rem ih2 =>
    intro k σ hk
    have hne : ¬ k = M r := by omega
    have hc := hC r k hr (by omega)
    have hi := hp_ok_int hc
    have e1 : (1000 : Int32).toInt = 1000 := by decide
    have e0 : (0 : Int32).toInt = 0 := by decide
    have e9 : (-9 : Int32).toInt = -9 := by decide
    have m1 : (-1 : Int32).toInt = -1 := by decide
    have m2 : (-2 : Int32).toInt = -2 := by decide
    have m3 : (-3 : Int32).toInt = -3 := by decide
    have m4 : (-4 : Int32).toInt = -4 := by decide
    unfold hp_loop
    by_cases hb : hp_bg σ = 300
    · refine hp_to.one ?_
      simp [hp_step, hne, hp_doc, hb, hp_lcont, hp_end, hp_cont, hp_up]
    · rw [if_neg hb]
      by_cases h2 : C r k = -2
      · refine hp_to.one ?_
        have a1 : ¬ (1000 : Int32) ≤ -2 := by decide
        have a2 : ¬ (0 : Int32) < -2 := by decide
        have a3 : ¬ (-2 : Int32) < -9 := by decide
        have a4 : ¬ (-2 : Int32) = -1 := by decide
        simp [hp_step, hne, hp_doc, hb, h2, a1, a2, a3, a4, hp_lcont, hp_end, hp_cont]
      · rw [if_neg h2]
        by_cases h3 : C r k = -3
        · rw [if_pos h3]
          refine hp_to.tr (hp_to.one (u := (hp_cl (hp_beg (hp_wr 3 (hp_wr 2 σ))), (r, k + 1) :: l, none)) ?_) (ih2 (k + 1) _ (by omega))
          have a1 : ¬ (1000 : Int32) ≤ -3 := by decide
          have a2 : ¬ (0 : Int32) < -3 := by decide
          have a3 : ¬ (-3 : Int32) < -9 := by decide
          have a4 : ¬ (-3 : Int32) = -1 := by decide
          have a5 : ¬ (-3 : Int32) = -2 := by decide
          simp [hp_step, hne, hp_doc, hb, h3, a1, a2, a3, a4, a5]
        · rw [if_neg h3]
          by_cases h4 : C r k = -4
          · rw [if_pos h4]
            refine hp_to.one ?_
            have a1 : ¬ (1000 : Int32) ≤ -4 := by decide
            have a2 : ¬ (0 : Int32) < -4 := by decide
            have a3 : ¬ (-4 : Int32) < -9 := by decide
            have a4 : ¬ (-4 : Int32) = -1 := by decide
            have a5 : ¬ (-4 : Int32) = -2 := by decide
            have a6 : ¬ (-4 : Int32) = -3 := by decide
            simp [hp_step, hne, hp_doc, hb, h4, a1, a2, a3, a4, a5, a6, hp_lcont, hp_end, hp_cont]
          · rw [if_neg h4]
            -- the cell works: it comes to what its work says
            have key : hp_to M C h ta lo (σ, (r, k) :: l, none) (hp_wcont C r k l (hp_work (hp_lift M C h ta lo n) h ta lo (C r k) (hp_beg (hp_wr 3 (hp_wr 2 σ))))) := by
              by_cases h1 : 1000 ≤ C r k
              · rw [← hp_after hc h1]
                have hrr : (C r k).toNatClampNeg % 1000 < 8 := by
                  obtain ⟨p3, p2, p1⟩ := hp_rack hc h1
                  by_cases q3 : 3000 ≤ C r k
                  · exact (p3 q3).2
                  · by_cases q2 : 2000 ≤ C r k
                    · exact (p2 q3 q2).2
                    · exact (p1 q3 q2).2
                by_cases hn0 : n = 0
                · refine hp_to.one ?_
                  have hl6 : ¬ l.length + 1 < 6 := by omega
                  subst hn0
                  simp [hp_step, hne, hp_doc, hb, h1, hl6, hp_lift, hp_cont]
                · refine hp_to.tr (hp_to.one (u := (hp_wr 1 (hp_mrs (l.length + 2) (hp_beg (hp_wr 3 (hp_wr 2 σ)))), ((C r k).toNatClampNeg % 1000, 0) :: (r, k) :: l, none)) ?_) (ih _ k _ hrr hn0)
                  have hl6 : l.length + 1 < 6 := by omega
                  simp [hp_step, hne, hp_doc, hb, h1, hl6]
              · refine hp_to.one ?_
                have n3 : ¬ 3000 ≤ C r k := by rw [hp_le]; rw [hp_le] at h1; have e3 : (3000 : Int32).toInt = 3000 := (by decide); omega
                have n2 : ¬ 2000 ≤ C r k := by rw [hp_le]; rw [hp_le] at h1; have e2 : (2000 : Int32).toInt = 2000 := (by decide); omega
                by_cases h0 : 0 < C r k
                · have hta : C r k - ta = 0 ↔ C r k = ta := by
                    constructor
                    · intro hz
                      have : C r k - ta + ta = 0 + ta := by rw [hz]
                      simpa using this
                    · intro hz; rw [hz]; simp
                  by_cases ht : C r k = ta
                  · have ht' := hta.mpr ht
                    simp [hp_step, hne, hp_doc, hb, h1, h0, ht, hp_work, n3, n2, hp_wcont, hp_up]
                    simp [← ht, hp_step, hne, hp_doc, hb, h1, h0, hp_work, n3, n2, hp_wcont, hp_up]
                  · have ht' : ¬ C r k - ta = 0 := fun z => ht (hta.mp z)
                    simp [hp_step, hne, hp_doc, hb, h1, h0, ht, ht', hp_work, n3, n2, hp_wcont]
                · by_cases hm : C r k = -1
                  · have a1 : ¬ (1000 : Int32) ≤ -1 := by decide
                    have a2 : ¬ (0 : Int32) < -1 := by decide
                    have a3 : ¬ (-1 : Int32) < -9 := by decide
                    have a4 : ¬ (3000 : Int32) ≤ -1 := by decide
                    have a5 : ¬ (2000 : Int32) ≤ -1 := by decide
                    simp [hp_step, hne, hp_doc, hb, hm, a1, a2, a3, a4, a5, hp_work, hp_wcont, hp_up]
                  · have h9 : C r k < -9 := by
                      rw [hp_lt, e9]
                      rw [hp_lt, e0] at h0
                      have q1 : (C r k).toInt ≠ -1 := fun z => hm (hp_inj (by rw [z, m1]))
                      have q2 : (C r k).toInt ≠ -2 := fun z => h2 (hp_inj (by rw [z, m2]))
                      have q3 : (C r k).toInt ≠ -3 := fun z => h3 (hp_inj (by rw [z, m3]))
                      have q4 : (C r k).toInt ≠ -4 := fun z => h4 (hp_inj (by rw [z, m4]))
                      omega
                    by_cases hk3 : 3 < (-10 - C r k).toNatClampNeg
                    · simp [hp_step, hne, hp_doc, hb, h1, h0, h9, hk3, hm, hp_work, n3, n2, hp_wcont, hp_up]
                    · by_cases hh : h (-10 - C r k).toNatClampNeg = 0
                      · simp [hp_step, hne, hp_doc, hb, h1, h0, h9, hk3, hh, hm, hp_work, n3, n2, hp_wcont, hp_up]
                      · simp [hp_step, hne, hp_doc, hb, h1, h0, h9, hk3, hh, hm, hp_work, n3, n2, hp_wcont]
            cases hq : hp_work (hp_lift M C h ta lo n) h ta lo (C r k) (hp_beg (hp_wr 3 (hp_wr 2 σ))) with
            | mk o τ =>
              rw [hq] at key
              cases o with
              | none => exact hp_to.tr key (ih2 (k + 1) _ (by omega))
              | some x =>
                refine hp_to.tr key ?_
                simp [hp_wcont, hp_lcont, hp_end, hp_cont]
                exact hp_to.rf
theorem hp_sim (hC : ∀ r k, r < 8 → k < M r → hp_ok (C r k)) : ∀ (n : Nat) (l : List (Nat × Nat)) (r : Nat) (σ : hp_S), r < 8 → l.length + n + 1 = 6 →
    hp_to M C h ta lo (hp_wr 1 (hp_mrs (l.length + 1) σ), (r, 0) :: l, none) (hp_cont C l (hp_lift M C h ta lo (n + 1) r σ)) := by
  intro n
  induction n with
  | zero =>
    intro l r σ hr hl
    have hd : 6 - 0 = l.length + 1 := by omega
    have := hp_sim_loop (h := h) (ta := ta) (lo := lo) (n := 0) (r := r) (l := l) (by omega) hC hr (fun _ _ _ _ h0 => absurd rfl h0) (M r) 0 (hp_wr 1 (hp_mrs (l.length + 1) σ)) (by omega)
    unfold hp_lift
    rw [hd]
    exact this
  | succ n ih =>
    intro l r σ hr hl
    have hd : 6 - (n + 1) = l.length + 1 := by omega
    have := hp_sim_loop (h := h) (ta := ta) (lo := lo) (n := n + 1) (r := r) (l := l) (by omega) hC hr (fun σ k rr hrr _ => by
      have := ih ((r, k) :: l) rr σ hrr (by simp; omega)
      simpa using this) (M r) 0 (hp_wr 1 (hp_mrs (l.length + 1) σ)) (by omega)
    unfold hp_lift
    rw [hd]
    exact this
/-! what a run may cost: begun, notes, failures made -/
def hp_w7 (o : Option hp_X) : Prop := ∃ x, o = some x ∧ x.1 = 7
/-- since σ: begun grows, to 300 at the most; notes and failures grow, by so much a begun cell -/
def hp_acc (a b : Nat) (o : Option hp_X) (σ τ : hp_S) : Prop :=
  hp_bg σ ≤ hp_bg τ ∧ hp_bg τ ≤ 300 ∧ hp_n σ ≤ hp_n τ ∧ hp_ex σ ≤ hp_ex τ ∧ (hp_w7 o → hp_n τ + 9 * hp_bg σ ≤ hp_n σ + 9 * hp_bg τ + a + 4 ∧ hp_ex τ + 2 * hp_bg σ ≤ hp_ex σ + 2 * hp_bg τ + 1) ∧
    (¬ hp_w7 o → hp_n τ + 9 * hp_bg σ ≤ hp_n σ + 9 * hp_bg τ + a ∧ hp_ex τ + 2 * hp_bg σ ≤ hp_ex σ + 2 * hp_bg τ + b)
theorem hp_bg_wr (n : Int32) (σ : hp_S) : hp_bg (hp_wr n σ) = hp_bg σ := rfl
theorem hp_ex_wr (n : Int32) (σ : hp_S) : hp_ex (hp_wr n σ) = hp_ex σ := rfl
theorem hp_n_wr (n : Int32) (σ : hp_S) : hp_n (hp_wr n σ) = hp_n σ + 1 := rfl
theorem hp_bg_add (n : Int32) (σ : hp_S) : hp_bg (hp_add n σ) = hp_bg σ := rfl
theorem hp_ex_add (n : Int32) (σ : hp_S) : hp_ex (hp_add n σ) = hp_ex σ := rfl
theorem hp_n_add (n : Int32) (σ : hp_S) : hp_n (hp_add n σ) = hp_n σ := rfl
theorem hp_bg_beg (σ : hp_S) : hp_bg (hp_beg σ) = hp_bg σ + 1 := rfl
theorem hp_ex_beg (σ : hp_S) : hp_ex (hp_beg σ) = hp_ex σ := rfl
theorem hp_n_beg (σ : hp_S) : hp_n (hp_beg σ) = hp_n σ := rfl
theorem hp_bg_exc (σ : hp_S) : hp_bg (hp_exc σ) = hp_bg σ := rfl
theorem hp_ex_exc (σ : hp_S) : hp_ex (hp_exc σ) = hp_ex σ + 1 := rfl
theorem hp_n_exc (σ : hp_S) : hp_n (hp_exc σ) = hp_n σ := rfl
theorem hp_bg_mrs (d : Nat) (σ : hp_S) : hp_bg (hp_mrs d σ) = hp_bg σ := rfl
theorem hp_ex_mrs (d : Nat) (σ : hp_S) : hp_ex (hp_mrs d σ) = hp_ex σ := rfl
theorem hp_n_mrs (d : Nat) (σ : hp_S) : hp_n (hp_mrs d σ) = hp_n σ := rfl
theorem hp_bg_cl (σ : hp_S) : hp_bg (hp_cl σ) = hp_bg σ := rfl
theorem hp_ex_cl (σ : hp_S) : hp_ex (hp_cl σ) = hp_ex σ := rfl
theorem hp_n_cl (σ : hp_S) : hp_n (hp_cl σ) = hp_n σ + 2 := rfl
theorem hp_acc_work {lf : Nat → hp_S → hp_R} (hl : ∀ r σ, hp_bg σ ≤ 300 → hp_acc 3 1 (lf r σ).1 σ (lf r σ).2) (c : Int32) (σ : hp_S) (hσ : hp_bg σ ≤ 300) :
    hp_acc 4 2 (hp_work lf h ta lo c σ).1 σ (hp_work lf h ta lo c σ).2 := by
  have hx : ∀ k, k ≠ 7 → hp_acc 4 2 (some (k, [])) σ (hp_exc σ) := by
    intro k hk
    refine ⟨Nat.le_refl _, hσ, Nat.le_refl _, by rw [hp_ex_exc]; omega, ?_, fun _ => ⟨by rw [hp_n_exc, hp_bg_exc]; omega, by rw [hp_ex_exc, hp_bg_exc]; omega⟩⟩
    rintro ⟨x, hx, h7⟩
    cases hx
    exact absurd h7 hk
  have hn : ∀ z, hp_acc 4 2 none σ (hp_add z σ) := by
    intro z
    refine ⟨Nat.le_refl _, hσ, Nat.le_refl _, Nat.le_refl _, ?_, fun _ => ⟨by rw [hp_n_add, hp_bg_add]; omega, by rw [hp_ex_add, hp_bg_add]; omega⟩⟩
    rintro ⟨x, hx, -⟩
    cases hx
  have hup : ∀ (q : hp_R), hp_acc 3 1 q.1 σ q.2 → hp_acc 4 2 q.1 σ q.2 := by
    rintro ⟨o, τ⟩ ⟨a1, a2, a3, a4, a5, a6⟩
    refine ⟨a1, a2, a3, a4, fun w => ?_, fun w => ?_⟩
    · have := a5 w; dsimp only at *; omega
    · have := a6 w; dsimp only at *; omega
  unfold hp_work
  split
  · have hq := hl (c - 3000).toNatClampNeg σ hσ
    cases he : lf (c - 3000).toNatClampNeg σ with
    | mk o τ =>
      rw [he] at hq
      cases o with
      | none => exact hup (none, τ) hq
      | some x =>
        by_cases h7 : x.1 = 7
        · simp only [h7, if_true]; exact hup (some x, τ) hq
        · simp only [h7, if_false]
          obtain ⟨a1, a2, a3, a4, a5, a6⟩ := hq
          dsimp only at *
          have a7 := a6 (by rintro ⟨y, hy, h9⟩; cases hy; exact h7 h9)
          refine ⟨by rw [hp_bg_add, hp_bg_wr]; exact a1, by rw [hp_bg_add, hp_bg_wr]; exact a2, by rw [hp_n_add, hp_n_wr]; omega, by rw [hp_ex_add, hp_ex_wr]; exact a4, ?_, fun _ => ⟨by rw [hp_n_add, hp_n_wr, hp_bg_add, hp_bg_wr]; omega, by rw [hp_ex_add, hp_ex_wr, hp_bg_add, hp_bg_wr]; omega⟩⟩
          rintro ⟨y, hy, -⟩
          cases hy
  · split
    · have hq := hl (c - 2000).toNatClampNeg σ hσ
      cases he : lf (c - 2000).toNatClampNeg σ with
      | mk o τ =>
        rw [he] at hq
        cases o with
        | none => exact hup (none, τ) hq
        | some x =>
          by_cases h7 : x.1 = 7
          · simp only [h7, if_true]; exact hup (some x, τ) hq
          · simp only [h7, if_false]
            obtain ⟨a1, a2, a3, a4, a5, a6⟩ := hq
            dsimp only at *
            have a7 := a6 (by rintro ⟨y, hy, h9⟩; cases hy; exact h7 h9)
            refine ⟨a1, a2, a3, by rw [hp_ex_exc]; omega, ?_, fun _ => ⟨by rw [hp_n_exc, hp_bg_exc]; omega, by rw [hp_ex_exc, hp_bg_exc]; omega⟩⟩
            rintro ⟨y, hy, h9⟩
            cases hy
            exact absurd h9 h7
    · split
      · exact hup _ (hl _ σ hσ)
      · split
        · split
          · exact hx 2 (by decide)
          · exact hn _
        · split
          · exact hx 1 (by decide)
          · split
            · exact hx 4 (by decide)
            · split
              · exact hx 3 (by decide)
              · exact hn _
def hp_lo (q : Option (Option hp_X)) : Option hp_X := match q with
  | some (some x) => some x
  | _ => none
theorem hp_acc_loop {wk : Int32 → hp_S → hp_R} {C1 : Nat → Int32} (hw : ∀ c σ, hp_bg σ ≤ 300 → hp_acc 4 2 (wk c σ).1 σ (wk c σ).2) :
    ∀ (rem k : Nat) (σ : hp_S), hp_bg σ ≤ 300 → hp_acc 0 0 (hp_lo (hp_loop wk C1 rem k σ).1) σ (hp_loop wk C1 rem k σ).2 := by
  intro rem
  induction rem with
  | zero =>
    intro k σ hσ
    refine ⟨Nat.le_refl _, hσ, Nat.le_refl _, Nat.le_refl _, ?_, fun _ => ⟨by simp [hp_loop], by simp [hp_loop]⟩⟩
    rintro ⟨x, hx, -⟩
    cases hx
  | succ rem ih =>
    intro k σ hσ
    unfold hp_loop
    split
    · refine ⟨Nat.le_refl _, hσ, ?_, ?_, fun _ => ⟨?_, ?_⟩, fun w => absurd ⟨(7, []), rfl, rfl⟩ w⟩
      · show hp_n σ ≤ hp_n σ + 4; omega
      · show hp_ex σ ≤ hp_ex σ + 1; omega
      · show hp_n σ + 4 + 9 * hp_bg σ ≤ hp_n σ + 9 * hp_bg σ + 0 + 4; omega
      · show hp_ex σ + 1 + 2 * hp_bg σ ≤ hp_ex σ + 2 * hp_bg σ + 1; omega
    · next hb =>
      have hb2 : hp_bg (hp_beg (hp_wr 3 (hp_wr 2 σ))) ≤ 300 := by show hp_bg σ + 1 ≤ 300; omega
      have hleaf : ∀ q, hp_lo q = none → hp_acc 0 0 (hp_lo q) σ (hp_cl (hp_beg (hp_wr 3 (hp_wr 2 σ)))) := by
        intro q hq
        rw [hq]
        refine ⟨?_, hb2, ?_, Nat.le_refl _, ?_, fun _ => ⟨?_, ?_⟩⟩
        · show hp_bg σ ≤ hp_bg σ + 1; omega
        · show hp_n σ ≤ hp_n σ + 4; omega
        · rintro ⟨x, hx, -⟩
          cases hx
        · show hp_n σ + 4 + 9 * hp_bg σ ≤ hp_n σ + 9 * (hp_bg σ + 1) + 0; omega
        · show hp_ex σ + 2 * hp_bg σ ≤ hp_ex σ + 2 * (hp_bg σ + 1) + 0; omega
      split
      · exact hleaf none rfl
      · split
        · obtain ⟨a1, a2, a3, a4, a5, a6⟩ := ih (k + 1) (hp_cl (hp_beg (hp_wr 3 (hp_wr 2 σ)))) hb2
          simp only [hp_bg_cl, hp_bg_beg, hp_bg_wr, hp_n_cl, hp_n_beg, hp_n_wr, hp_ex_cl, hp_ex_beg, hp_ex_wr] at a1 a3 a4 a5 a6
          refine ⟨by omega, a2, by omega, a4, fun w => ?_, fun w => ?_⟩
          · have := a5 w; omega
          · have := a6 w; omega
        · split
          · exact hleaf (some none) rfl
          · have hq := hw (C1 k) (hp_beg (hp_wr 3 (hp_wr 2 σ))) hb2
            cases he : wk (C1 k) (hp_beg (hp_wr 3 (hp_wr 2 σ))) with
            | mk o τ =>
              rw [he] at hq
              obtain ⟨b1, b2, b3, b4, b5, b6⟩ := hq
              dsimp only at b1 b2 b3 b4 b5 b6
              simp only [hp_bg_beg, hp_bg_wr, hp_n_beg, hp_n_wr, hp_ex_beg, hp_ex_wr] at b1 b3 b4 b5 b6
              cases o with
              | none =>
                have b7 := b6 (by rintro ⟨x, hx, -⟩; cases hx)
                obtain ⟨a1, a2, a3, a4, a5, a6⟩ := ih (k + 1) (hp_wr 5 (hp_cl τ)) b2
                simp only [hp_bg_cl, hp_bg_wr, hp_n_cl, hp_n_wr, hp_ex_cl, hp_ex_wr] at a1 a3 a4 a5 a6
                refine ⟨by dsimp only; omega, a2, by dsimp only; omega, by dsimp only; omega, fun w => ?_, fun w => ?_⟩
                · have := a5 w; dsimp only; omega
                · have := a6 w; dsimp only; omega
              | some x =>
                refine ⟨by show hp_bg σ ≤ hp_bg τ; omega, b2, by show hp_n σ ≤ hp_n τ + 2; omega, by show hp_ex σ ≤ hp_ex τ; omega, fun w => ?_, fun w => ?_⟩
                · have := b5 w
                  show hp_n τ + 2 + 9 * hp_bg σ ≤ hp_n σ + 9 * hp_bg τ + 0 + 4 ∧ hp_ex τ + 2 * hp_bg σ ≤ hp_ex σ + 2 * hp_bg τ + 1
                  omega
                · have := b6 w
                  show hp_n τ + 2 + 9 * hp_bg σ ≤ hp_n σ + 9 * hp_bg τ + 0 ∧ hp_ex τ + 2 * hp_bg σ ≤ hp_ex σ + 2 * hp_bg τ + 0
                  omega
theorem hp_acc_lift : ∀ (n r : Nat) (σ : hp_S), hp_bg σ ≤ 300 → hp_acc 3 1 (hp_lift M C h ta lo n r σ).1 σ (hp_lift M C h ta lo n r σ).2 := by
  intro n
  induction n with
  | zero =>
    intro r σ hσ
    refine ⟨Nat.le_refl _, hσ, Nat.le_refl _, ?_, ?_, fun _ => ⟨?_, ?_⟩⟩
    · show hp_ex σ ≤ hp_ex σ + 1; omega
    · rintro ⟨x, hx, h7⟩
      cases hx
      exact absurd h7 (by decide)
    · show hp_n σ + 9 * hp_bg σ ≤ hp_n σ + 9 * hp_bg σ + 3; omega
    · show hp_ex σ + 1 + 2 * hp_bg σ ≤ hp_ex σ + 2 * hp_bg σ + 1; omega
  | succ n ih =>
    intro r σ hσ
    unfold hp_lift
    have hq := hp_acc_loop (C1 := C r) (fun c σ hσ => hp_acc_work (h := h) (ta := ta) (lo := lo) ih c σ hσ) (M r) 0 (hp_wr 1 (hp_mrs (6 - n) σ)) hσ
    cases he : hp_loop (hp_work (hp_lift M C h ta lo n) h ta lo) (C r) (M r) 0 (hp_wr 1 (hp_mrs (6 - n) σ)) with
    | mk o τ =>
      rw [he] at hq
      obtain ⟨b1, b2, b3, b4, b5, b6⟩ := hq
      dsimp only at b1 b2 b3 b4 b5 b6
      simp only [hp_bg_mrs, hp_bg_wr, hp_n_mrs, hp_n_wr, hp_ex_mrs, hp_ex_wr] at b1 b3 b4 b5 b6
      match o with
      | none =>
        have b7 := b6 (by rintro ⟨x, hx, -⟩; cases hx)
        refine ⟨b1, b2, by show hp_n σ ≤ hp_n τ + 2; omega, b4, ?_, fun w => ?_⟩
        · rintro ⟨x, hx, -⟩
          cases hx
        · show hp_n τ + 2 + 9 * hp_bg σ ≤ hp_n σ + 9 * hp_bg τ + 3 ∧ hp_ex τ + 2 * hp_bg σ ≤ hp_ex σ + 2 * hp_bg τ + 1
          omega
      | some none =>
        have b7 := b6 (by rintro ⟨x, hx, -⟩; cases hx)
        refine ⟨b1, b2, by show hp_n σ ≤ hp_n τ + 1; omega, b4, ?_, fun w => ?_⟩
        · rintro ⟨x, hx, -⟩
          cases hx
        · show hp_n τ + 1 + 9 * hp_bg σ ≤ hp_n σ + 9 * hp_bg τ + 3 ∧ hp_ex τ + 2 * hp_bg σ ≤ hp_ex σ + 2 * hp_bg τ + 1
          omega
      | some (some x) =>
        refine ⟨b1, b2, by show hp_n σ ≤ hp_n τ + 1; omega, b4, fun w => ?_, fun w => ?_⟩
        · have := b5 w
          show hp_n τ + 1 + 9 * hp_bg σ ≤ hp_n σ + 9 * hp_bg τ + 3 + 4 ∧ hp_ex τ + 2 * hp_bg σ ≤ hp_ex σ + 2 * hp_bg τ + 1
          omega
        · have := b6 w
          show hp_n τ + 1 + 9 * hp_bg σ ≤ hp_n σ + 9 * hp_bg τ + 3 ∧ hp_ex τ + 2 * hp_bg σ ≤ hp_ex σ + 2 * hp_bg τ + 1
          omega
/-- a loop with a cell to do writes four notes at least -/
theorem hp_loop_ge {wk : Int32 → hp_S → hp_R} {C1 : Nat → Int32} (hw : ∀ c σ, hp_bg σ ≤ 300 → hp_acc 4 2 (wk c σ).1 σ (wk c σ).2) (rem k : Nat) (σ : hp_S) (hσ : hp_bg σ ≤ 300) : hp_n σ + 4 ≤ hp_n (hp_loop wk C1 (rem + 1) k σ).2 := by
  unfold hp_loop
  split
  · exact Nat.le_refl _
  · next hb =>
    have hb2 : hp_bg (hp_beg (hp_wr 3 (hp_wr 2 σ))) ≤ 300 := by show hp_bg σ + 1 ≤ 300; omega
    split
    · exact Nat.le_refl _
    · split
      · exact (hp_acc_loop hw rem (k + 1) (hp_cl (hp_beg (hp_wr 3 (hp_wr 2 σ)))) hb2).2.2.1
      · split
        · exact Nat.le_refl _
        · have hq := hw (C1 k) (hp_beg (hp_wr 3 (hp_wr 2 σ))) hb2
          cases he : wk (C1 k) (hp_beg (hp_wr 3 (hp_wr 2 σ))) with
          | mk o τ =>
            rw [he] at hq
            have b2 : hp_bg τ ≤ 300 := hq.2.1
            have b3 : hp_n σ + 2 ≤ hp_n τ := hq.2.2.1
            cases o with
            | none =>
              have := (hp_acc_loop hw rem (k + 1) (hp_wr 5 (hp_cl τ)) b2 : hp_acc 0 0 _ _ (hp_loop wk C1 rem (k + 1) (hp_wr 5 (hp_cl τ))).2).2.2.1
              have e : hp_n (hp_wr 5 (hp_cl τ)) = hp_n τ + 3 := rfl
              dsimp only
              omega
            | some x =>
              show hp_n σ + 4 ≤ hp_n τ + 2
              omega
/-- a whole run stays within its notes and its failures -/
theorem hp_whole (r : Nat) (σ : hp_S) (h0 : hp_bg σ = 0) (h1 : hp_n σ = 0) (h2 : hp_ex σ = 0) : hp_n (hp_lift M C h ta lo 6 r σ).2 ≤ 2707 ∧ hp_ex (hp_lift M C h ta lo 6 r σ).2 ≤ 601 ∧ hp_bg (hp_lift M C h ta lo 6 r σ).2 ≤ 300 := by
  obtain ⟨-, a2, -, -, a5, a6⟩ := hp_acc_lift (M := M) (C := C) (h := h) (ta := ta) (lo := lo) 6 r σ (by omega)
  by_cases w : hp_w7 (hp_lift M C h ta lo 6 r σ).1
  · have := a5 w; omega
  · have := a6 w; omega
/-! notes in an array -/
def hp_jr : List Int32 → (Nat → Int32) → Prop
  | [], _ => True
  | n :: js, J => J js.length = n ∧ hp_jr js J
theorem hp_jr.keep {js : List Int32} {J J' : Nat → Int32} (hj : hp_jr js J) (he : ∀ i, i < js.length → J' i = J i) : hp_jr js J' := by
  induction js with
  | nil => trivial
  | cons n js ih => exact ⟨(he _ (Nat.lt_succ_self _)).trans hj.1, ih hj.2 (fun i hi => he i (Nat.lt_succ_of_lt hi))⟩
theorem hp_jr.put {js : List Int32} {J : Nat → Int32} (hj : hp_jr js J) (n : Int32) : hp_jr (n :: js) (upd J js.length n) :=
  ⟨by simp [upd], hj.keep (fun i hi => by simp [upd, Nat.ne_of_lt hi])⟩
theorem hp_jr.same {js : List Int32} {J N : Nat → Int32} (hj : hp_jr js J) (hn : hp_jr js N) : ∀ i, i < js.length → J i = N i := by
  induction js with
  | nil => intro i hi; exact absurd hi (Nat.not_lt_zero _)
  | cons n js ih =>
    intro i hi
    by_cases e : i = js.length
    · rw [e, hj.1, hn.1]
    · exact ih hj.2 hn.2 i (by have : i < js.length + 1 := hi; omega)
def hp_at (js : List Int32) (i : Nat) : Int32 := js.reverse.getD i 0
theorem hp_jr.at {js : List Int32} {J : Nat → Int32} (hj : hp_jr js J) : ∀ i, i < js.length → J i = hp_at js i := by
  induction js with
  | nil => intro i hi; exact absurd hi (Nat.not_lt_zero _)
  | cons n js ih =>
    intro i hi
    unfold hp_at
    rw [List.reverse_cons]
    by_cases e : i = js.length
    · rw [e, hj.1]
      simp [List.getD_eq_getElem?_getD]
    · have hl : i < js.length := by have : i < js.length + 1 := hi; omega
      rw [ih hj.2 i hl]
      unfold hp_at
      simp only [List.getD_eq_getElem?_getD]
      rw [List.getElem?_append_left (by simpa using hl)]
end HPP
end
section
-- ===== PART A: goes FIRST, ahead of the names: the tables' words, and 'selects' of the private methods out of them =====
/-- a private method of a class that the tables say can be made, by its rows of tables_1 -/
def lw_okq (q : MethodName × Nat) : Prop := (q.1.cls ≠ "java/lang/invoke/MethodHandle" ∧ q.1.cls ≠ "java/lang/invoke/VarHandle") ∧ Cond.instantiable q.1.cls q.2 ∈ tables_1 ∧ Cond.privateMethod q.1 ∈ tables_1 ∧ Cond.instanceMethod q.1 ∈ tables_1
set_option maxRecDepth 100000
theorem lw_t1 {w : Cond} (h : w ∈ tables_1_1) : w ∈ tables_1 := List.mem_append_left _ h
theorem lw_t2 {w : Cond} (h : w ∈ tables_1_2) : w ∈ tables_1 := List.mem_append_right _ (List.mem_append_left _ h)
theorem lw_t3 {w : Cond} (h : w ∈ tables_1_3) : w ∈ tables_1 := List.mem_append_right _ (List.mem_append_right _ h)
theorem lw_p0 : lw_okq (⟨"java/lang/NullPointerException", "getExtendedNPEMessage", "()Ljava/lang/String;"⟩, 8) := ⟨⟨by decide +kernel, by decide +kernel⟩, lw_t1 (List.mem_of_getElem? (i := 165) rfl), lw_t1 (List.mem_of_getElem? (i := 163) rfl), lw_t1 (List.mem_of_getElem? (i := 164) rfl)⟩
theorem lw_p1 : lw_okq (⟨"java/lang/Throwable", "fillInStackTrace", "(I)Ljava/lang/Throwable;"⟩, 6) := ⟨⟨by decide +kernel, by decide +kernel⟩, lw_t1 (List.mem_of_getElem? (i := 177) rfl), lw_t1 (List.mem_of_getElem? (i := 175) rfl), lw_t1 (List.mem_of_getElem? (i := 176) rfl)⟩
theorem lw_p2 : lw_okq (⟨"HoistRacks", "failed", "(I)V"⟩, 17) := ⟨⟨by decide +kernel, by decide +kernel⟩, lw_t1 (List.mem_of_getElem? (i := 17) rfl), lw_t2 (List.mem_of_getElem? (i := 25) rfl), lw_t2 (List.mem_of_getElem? (i := 26) rfl)⟩
theorem lw_p3 : lw_okq (⟨"HoistRacks", "lift", "(I)V"⟩, 17) := ⟨⟨by decide +kernel, by decide +kernel⟩, lw_t1 (List.mem_of_getElem? (i := 17) rfl), lw_t2 (List.mem_of_getElem? (i := 29) rfl), lw_t2 (List.mem_of_getElem? (i := 30) rfl)⟩
theorem lw_p4 : lw_okq (⟨"HoistRacks", "write", "(I)V"⟩, 17) := ⟨⟨by decide +kernel, by decide +kernel⟩, lw_t1 (List.mem_of_getElem? (i := 17) rfl), lw_t2 (List.mem_of_getElem? (i := 57) rfl), lw_t2 (List.mem_of_getElem? (i := 58) rfl)⟩
theorem lw_p5 : lw_okq (⟨"HoistRacks", "begin", "()V"⟩, 17) := ⟨⟨by decide +kernel, by decide +kernel⟩, lw_t1 (List.mem_of_getElem? (i := 17) rfl), lw_t2 (List.mem_of_getElem? (i := 61) rfl), lw_t2 (List.mem_of_getElem? (i := 62) rfl)⟩
theorem lw_p6 : lw_okq (⟨"HoistRacks", "work", "(I)V"⟩, 17) := ⟨⟨by decide +kernel, by decide +kernel⟩, lw_t1 (List.mem_of_getElem? (i := 17) rfl), lw_t2 (List.mem_of_getElem? (i := 80) rfl), lw_t2 (List.mem_of_getElem? (i := 81) rfl)⟩
theorem lw_p7 : lw_okq (⟨"HoistRacks", "sheltered", "(I)V"⟩, 17) := ⟨⟨by decide +kernel, by decide +kernel⟩, lw_t1 (List.mem_of_getElem? (i := 17) rfl), lw_t2 (List.mem_of_getElem? (i := 84) rfl), lw_t2 (List.mem_of_getElem? (i := 85) rfl)⟩
theorem lw_p8 : lw_okq (⟨"HoistRacks", "guarded", "(I)V"⟩, 17) := ⟨⟨by decide +kernel, by decide +kernel⟩, lw_t1 (List.mem_of_getElem? (i := 17) rfl), lw_t2 (List.mem_of_getElem? (i := 88) rfl), lw_t2 (List.mem_of_getElem? (i := 89) rfl)⟩
theorem lw_p9 : lw_okq (⟨"HoistRacks", "behind", "(LHoistRacks$Spill;)V"⟩, 17) := ⟨⟨by decide +kernel, by decide +kernel⟩, lw_t1 (List.mem_of_getElem? (i := 17) rfl), lw_t2 (List.mem_of_getElem? (i := 111) rfl), lw_t2 (List.mem_of_getElem? (i := 112) rfl)⟩
theorem lw_p10 : lw_okq (⟨"HoistRacksModel", "fails", "(I)V"⟩, 17) := ⟨⟨by decide +kernel, by decide +kernel⟩, lw_t2 (List.mem_of_getElem? (i := 141) rfl), lw_t2 (List.mem_of_getElem? (i := 228) rfl), lw_t2 (List.mem_of_getElem? (i := 229) rfl)⟩
theorem lw_p11 : lw_okq (⟨"HoistRacksModel", "begins", "(I)V"⟩, 17) := ⟨⟨by decide +kernel, by decide +kernel⟩, lw_t2 (List.mem_of_getElem? (i := 141) rfl), lw_t2 (List.mem_of_getElem? (i := 232) rfl), lw_t2 (List.mem_of_getElem? (i := 233) rfl)⟩
theorem lw_p12 : lw_okq (⟨"HoistRacksModel", "writes", "(I)V"⟩, 17) := ⟨⟨by decide +kernel, by decide +kernel⟩, lw_t2 (List.mem_of_getElem? (i := 141) rfl), lw_t2 (List.mem_of_getElem? (i := 236) rfl), lw_t2 (List.mem_of_getElem? (i := 237) rfl)⟩
theorem lw_p13 : lw_okq (⟨"HoistRacksModel", "finishes", "()V"⟩, 17) := ⟨⟨by decide +kernel, by decide +kernel⟩, lw_t2 (List.mem_of_getElem? (i := 141) rfl), lw_t3 (List.mem_of_getElem? (i := 0) rfl), lw_t3 (List.mem_of_getElem? (i := 1) rfl)⟩
theorem lw_p14 : lw_okq (⟨"HoistRacksModel", "ends", "()V"⟩, 17) := ⟨⟨by decide +kernel, by decide +kernel⟩, lw_t2 (List.mem_of_getElem? (i := 141) rfl), lw_t3 (List.mem_of_getElem? (i := 4) rfl), lw_t3 (List.mem_of_getElem? (i := 5) rfl)⟩
theorem lw_p15 : lw_okq (⟨"HoistRacksModel", "passes", "()V"⟩, 17) := ⟨⟨by decide +kernel, by decide +kernel⟩, lw_t2 (List.mem_of_getElem? (i := 141) rfl), lw_t3 (List.mem_of_getElem? (i := 8) rfl), lw_t3 (List.mem_of_getElem? (i := 9) rfl)⟩
def lw_privs_1 : List (MethodName × Nat) := [(⟨"java/lang/NullPointerException", "getExtendedNPEMessage", "()Ljava/lang/String;"⟩, 8), (⟨"java/lang/Throwable", "fillInStackTrace", "(I)Ljava/lang/Throwable;"⟩, 6), (⟨"HoistRacks", "failed", "(I)V"⟩, 17), (⟨"HoistRacks", "lift", "(I)V"⟩, 17), (⟨"HoistRacks", "write", "(I)V"⟩, 17), (⟨"HoistRacks", "begin", "()V"⟩, 17), (⟨"HoistRacks", "work", "(I)V"⟩, 17), (⟨"HoistRacks", "sheltered", "(I)V"⟩, 17), (⟨"HoistRacks", "guarded", "(I)V"⟩, 17), (⟨"HoistRacks", "behind", "(LHoistRacks$Spill;)V"⟩, 17), (⟨"HoistRacksModel", "fails", "(I)V"⟩, 17), (⟨"HoistRacksModel", "begins", "(I)V"⟩, 17), (⟨"HoistRacksModel", "writes", "(I)V"⟩, 17), (⟨"HoistRacksModel", "finishes", "()V"⟩, 17), (⟨"HoistRacksModel", "ends", "()V"⟩, 17), (⟨"HoistRacksModel", "passes", "()V"⟩, 17)]
theorem lw_r1 : ∀ q ∈ lw_privs_1, lw_okq q := List.forall_mem_cons.mpr ⟨lw_p0, List.forall_mem_cons.mpr ⟨lw_p1, List.forall_mem_cons.mpr ⟨lw_p2, List.forall_mem_cons.mpr ⟨lw_p3, List.forall_mem_cons.mpr ⟨lw_p4, List.forall_mem_cons.mpr ⟨lw_p5, List.forall_mem_cons.mpr ⟨lw_p6, List.forall_mem_cons.mpr ⟨lw_p7, List.forall_mem_cons.mpr ⟨lw_p8, List.forall_mem_cons.mpr ⟨lw_p9, List.forall_mem_cons.mpr ⟨lw_p10, List.forall_mem_cons.mpr ⟨lw_p11, List.forall_mem_cons.mpr ⟨lw_p12, List.forall_mem_cons.mpr ⟨lw_p13, List.forall_mem_cons.mpr ⟨lw_p14, List.forall_mem_cons.mpr ⟨lw_p15, fun _ h => absurd h List.not_mem_nil⟩⟩⟩⟩⟩⟩⟩⟩⟩⟩⟩⟩⟩⟩⟩⟩
theorem lw_p16 : lw_okq (⟨"HoistRacksModel", "closes", "()V"⟩, 17) := ⟨⟨by decide +kernel, by decide +kernel⟩, lw_t2 (List.mem_of_getElem? (i := 141) rfl), lw_t3 (List.mem_of_getElem? (i := 12) rfl), lw_t3 (List.mem_of_getElem? (i := 13) rfl)⟩
theorem lw_p17 : lw_okq (⟨"HoistRacksModel", "doCell", "()V"⟩, 17) := ⟨⟨by decide +kernel, by decide +kernel⟩, lw_t2 (List.mem_of_getElem? (i := 141) rfl), lw_t3 (List.mem_of_getElem? (i := 16) rfl), lw_t3 (List.mem_of_getElem? (i := 17) rfl)⟩
theorem lw_p18 : lw_okq (⟨"HoistRacksModel", "up", "()V"⟩, 17) := ⟨⟨by decide +kernel, by decide +kernel⟩, lw_t2 (List.mem_of_getElem? (i := 141) rfl), lw_t3 (List.mem_of_getElem? (i := 20) rfl), lw_t3 (List.mem_of_getElem? (i := 21) rfl)⟩
theorem lw_p19 : lw_okq (⟨"HoistRacksModel", "takes", "()Z"⟩, 17) := ⟨⟨by decide +kernel, by decide +kernel⟩, lw_t2 (List.mem_of_getElem? (i := 141) rfl), lw_t3 (List.mem_of_getElem? (i := 24) rfl), lw_t3 (List.mem_of_getElem? (i := 25) rfl)⟩
theorem lw_p20 : lw_okq (⟨"HoistRacksModel", "cellAtHand", "()I"⟩, 17) := ⟨⟨by decide +kernel, by decide +kernel⟩, lw_t2 (List.mem_of_getElem? (i := 141) rfl), lw_t3 (List.mem_of_getElem? (i := 28) rfl), lw_t3 (List.mem_of_getElem? (i := 29) rfl)⟩
theorem lw_p21 : lw_okq (⟨"HoistRacksModel", "lifts", "(I)V"⟩, 17) := ⟨⟨by decide +kernel, by decide +kernel⟩, lw_t2 (List.mem_of_getElem? (i := 141) rfl), lw_t3 (List.mem_of_getElem? (i := 32) rfl), lw_t3 (List.mem_of_getElem? (i := 33) rfl)⟩
theorem lw_p22 : lw_okq (⟨"HoistRacksModel", "barrel", "(I)V"⟩, 17) := ⟨⟨by decide +kernel, by decide +kernel⟩, lw_t2 (List.mem_of_getElem? (i := 141) rfl), lw_t3 (List.mem_of_getElem? (i := 36) rfl), lw_t3 (List.mem_of_getElem? (i := 37) rfl)⟩
theorem lw_p23 : lw_okq (⟨"HoistRacksModel", "help", "(I)V"⟩, 17) := ⟨⟨by decide +kernel, by decide +kernel⟩, lw_t2 (List.mem_of_getElem? (i := 141) rfl), lw_t3 (List.mem_of_getElem? (i := 40) rfl), lw_t3 (List.mem_of_getElem? (i := 41) rfl)⟩
theorem lw_p24 : lw_okq (⟨"HoistRacksModel", "leaves", "(I)V"⟩, 17) := ⟨⟨by decide +kernel, by decide +kernel⟩, lw_t2 (List.mem_of_getElem? (i := 141) rfl), lw_t3 (List.mem_of_getElem? (i := 44) rfl), lw_t3 (List.mem_of_getElem? (i := 45) rfl)⟩
def lw_privs_2 : List (MethodName × Nat) := [(⟨"HoistRacksModel", "closes", "()V"⟩, 17), (⟨"HoistRacksModel", "doCell", "()V"⟩, 17), (⟨"HoistRacksModel", "up", "()V"⟩, 17), (⟨"HoistRacksModel", "takes", "()Z"⟩, 17), (⟨"HoistRacksModel", "cellAtHand", "()I"⟩, 17), (⟨"HoistRacksModel", "lifts", "(I)V"⟩, 17), (⟨"HoistRacksModel", "barrel", "(I)V"⟩, 17), (⟨"HoistRacksModel", "help", "(I)V"⟩, 17), (⟨"HoistRacksModel", "leaves", "(I)V"⟩, 17)]
theorem lw_r2 : ∀ q ∈ lw_privs_2, lw_okq q := List.forall_mem_cons.mpr ⟨lw_p16, List.forall_mem_cons.mpr ⟨lw_p17, List.forall_mem_cons.mpr ⟨lw_p18, List.forall_mem_cons.mpr ⟨lw_p19, List.forall_mem_cons.mpr ⟨lw_p20, List.forall_mem_cons.mpr ⟨lw_p21, List.forall_mem_cons.mpr ⟨lw_p22, List.forall_mem_cons.mpr ⟨lw_p23, List.forall_mem_cons.mpr ⟨lw_p24, fun _ h => absurd h List.not_mem_nil⟩⟩⟩⟩⟩⟩⟩⟩⟩
def lw_privs : List (MethodName × Nat) := lw_privs_1 ++ (lw_privs_2)
def lw_tbl : List Cond := k2_sels lw_privs ++ tables_1
theorem lw_privs_ok : ∀ q ∈ lw_privs, lw_okq q := by
  show ∀ q ∈ lw_privs_1 ++ (lw_privs_2), lw_okq q
  exact List.forall_mem_append.mpr ⟨lw_r1, lw_r2⟩
-- ===== ONE list of words for every method: the tables' words that hold all through a run =====
def lw_all : List Cond := lw_tbl.filter goodWord
/-- a word of the tables by its place: claim/WORDS.tsv -/
theorem lw_w {w : Cond} (i : Nat) (h : lw_tbl[i]? = some w) (g : goodWord w = true) : w ∈ lw_all := List.mem_filter.mpr ⟨List.mem_of_getElem? h, g⟩
theorem lw_all_tbl {w : Cond} (h : w ∈ lw_all) : w ∈ lw_tbl := (List.mem_filter.mp h).1
theorem lw_self : GoodIn lw_all lw_all := fun w h => ⟨h, good_of_word (List.mem_filter.mp h).2⟩
/-- a class's field words, by their places -/
theorem lw_in (ws : List Cond) (ps : List Nat) (hp : ws = ps.filterMap (fun i => lw_tbl[i]?)) (hg : ws.all goodWord = true) : ∀ w ∈ ws, w ∈ lw_all := by
  intro w h
  have h1 := List.all_eq_true.mp hg w h
  rw [hp] at h
  obtain ⟨i, -, hi⟩ := List.mem_filterMap.mp h
  exact lw_w i hi h1
/-- the words of a contract for the method y with code b, L locals, answer r -/
abbrev ws_ (y : MethodName) (b : ByteArray) (L : Nat) (r : Option FieldType) : List Cond := Cond.code y b L r :: lw_all
theorem lw_meth {y : MethodName} {b : ByteArray} {L : Nat} {r : Option FieldType} (h : Cond.code y b L r ∈ lw_all) : GoodIn lw_all (ws_ y b L r) := by
  intro w hw
  rcases List.mem_cons.mp hw with e | e
  · rw [e]
    exact lw_self _ h
  · exact lw_self _ e
theorem lw_app {a c : List Cond} (ha : ∀ w ∈ a, w ∈ lw_all) (hc : GoodIn lw_all c) : GoodIn lw_all (a ++ c) := by
  intro w hw
  rcases List.mem_append.mp hw with e | e
  · exact lw_self w (ha w e)
  · exact hc w e
/-- what a call through an object asks: cwV n hts (lw_V ..) -/
theorem lw_V {own : String} {idx : Nat} {C : String} {y : MethodName} {b : ByteArray} {L : Nat} {r : Option FieldType} (h1 : Cond.methodLink own idx y ∈ lw_all) (h2 : Cond.instanceMethod y ∈ lw_all) (h3 : Cond.selects C y y ∈ lw_all) (h4 : Cond.initialized C ∈ lw_all) (h5 : Cond.code y b L r ∈ lw_all) : GoodIn lw_all (wsV own idx C y (ws_ y b L r)) := by
  refine lw_app ?_ (lw_meth h5)
  intro w hw
  simp only [List.mem_cons, List.not_mem_nil, or_false] at hw
  rcases hw with e | e | e | e
  · rw [e]; exact h1
  · rw [e]; exact h2
  · rw [e]; exact h3
  · rw [e]; exact h4
/-- what a static call asks: va_cwS n hts (lw_S ..) -/
theorem lw_S {own : String} {idx : Nat} {y : MethodName} {b : ByteArray} {L : Nat} {r : Option FieldType} (h1 : Cond.methodLink own idx y ∈ lw_all) (h2 : Cond.static y ∈ lw_all) (h3 : Cond.initialized y.cls ∈ lw_all) (h4 : Cond.code y b L r ∈ lw_all) : GoodIn lw_all (va_wsS own idx y (ws_ y b L r)) := by
  refine lw_app ?_ (lw_meth h4)
  intro w hw
  simp only [List.mem_cons, List.not_mem_nil, or_false] at hw
  rcases hw with e | e | e
  · rw [e]; exact h1
  · rw [e]; exact h2
  · rw [e]; exact h3
/-- the words of a contract for a method WITH HANDLERS (hh: its table) -/
abbrev wsW_ (y : MethodName) (b : ByteArray) (L : Nat) (r : Option FieldType) (hh : List (Nat × Nat × Nat × Nat)) : List Cond := Cond.codeWith y b L r hh :: lw_all
theorem lw_methW {y : MethodName} {b : ByteArray} {L : Nat} {r : Option FieldType} {hh : List (Nat × Nat × Nat × Nat)} (h : Cond.codeWith y b L r hh ∈ lw_all) : GoodIn lw_all (wsW_ y b L r hh) := by
  intro w hw
  rcases List.mem_cons.mp hw with e | e
  · rw [e]
    exact lw_self _ h
  · exact lw_self _ e
/-- any list of words by their places (lw_in), good -/
theorem lw_good {ws : List Cond} (h : ∀ w ∈ ws, w ∈ lw_all) : GoodIn lw_all ws := fun w hw => lw_self w (h w hw)
/-- what a call of a method with handlers asks: vx_cwVW n hts (lw_VW ..), vx_cwSW n hts (lw_SW ..) -/
theorem lw_VW {own : String} {idx : Nat} {C : String} {y : MethodName} {b : ByteArray} {L : Nat} {r : Option FieldType} {hh : List (Nat × Nat × Nat × Nat)} (h1 : Cond.methodLink own idx y ∈ lw_all) (h2 : Cond.instanceMethod y ∈ lw_all) (h3 : Cond.selects C y y ∈ lw_all) (h4 : Cond.initialized C ∈ lw_all) (h5 : Cond.codeWith y b L r hh ∈ lw_all) : GoodIn lw_all (wsV own idx C y (wsW_ y b L r hh)) := by
  refine lw_app ?_ (lw_methW h5)
  intro w hw
  simp only [List.mem_cons, List.not_mem_nil, or_false] at hw
  rcases hw with e | e | e | e
  · rw [e]; exact h1
  · rw [e]; exact h2
  · rw [e]; exact h3
  · rw [e]; exact h4
theorem lw_SW {own : String} {idx : Nat} {y : MethodName} {b : ByteArray} {L : Nat} {r : Option FieldType} {hh : List (Nat × Nat × Nat × Nat)} (h1 : Cond.methodLink own idx y ∈ lw_all) (h2 : Cond.static y ∈ lw_all) (h3 : Cond.initialized y.cls ∈ lw_all) (h4 : Cond.codeWith y b L r hh ∈ lw_all) : GoodIn lw_all (va_wsS own idx y (wsW_ y b L r hh)) := by
  refine lw_app ?_ (lw_methW h4)
  intro w hw
  simp only [List.mem_cons, List.not_mem_nil, or_false] at hw
  rcases hw with e | e | e
  · rw [e]; exact h1
  · rw [e]; exact h2
  · rw [e]; exact h3
/-- a word by its place in its run of the tables -/
theorem lw_at {r : List Cond} (hr : ∀ w ∈ r, w ∈ lw_tbl) {w : Cond} (i : Nat) (h : r[i]? = some w) : w ∈ lw_tbl := hr w (List.mem_of_getElem? h)
theorem lw_g {w : Cond} (h : w ∈ lw_tbl) (g : goodWord w = true) : w ∈ lw_all := List.mem_filter.mpr ⟨h, g⟩
theorem lw_ms : ∀ w ∈ k2_sels lw_privs, w ∈ lw_tbl := fun w h => show w ∈ k2_sels lw_privs ++ tables_1 from List.mem_append_left _ h
theorem lw_m1 : ∀ w ∈ tables_1_1, w ∈ lw_tbl := fun w h => show w ∈ k2_sels lw_privs ++ tables_1 from List.mem_append_right (k2_sels lw_privs) (show w ∈ tables_1 from List.mem_append_left _ h)
theorem lw_m2 : ∀ w ∈ tables_1_2, w ∈ lw_tbl := fun w h => show w ∈ k2_sels lw_privs ++ tables_1 from List.mem_append_right (k2_sels lw_privs) (show w ∈ tables_1 from List.mem_append_right _ (List.mem_append_left _ h))
theorem lw_m3 : ∀ w ∈ tables_1_3, w ∈ lw_tbl := fun w h => show w ∈ k2_sels lw_privs ++ tables_1 from List.mem_append_right (k2_sels lw_privs) (show w ∈ tables_1 from List.mem_append_right _ (List.mem_append_right _ h))
theorem qs0 : (Cond.selects "java/lang/NullPointerException" ⟨"java/lang/NullPointerException", "getExtendedNPEMessage", "()Ljava/lang/String;"⟩ ⟨"java/lang/NullPointerException", "getExtendedNPEMessage", "()Ljava/lang/String;"⟩) ∈ lw_all := lw_g (lw_at lw_ms 0 rfl) rfl
theorem qs1 : (Cond.selects "java/lang/Throwable" ⟨"java/lang/Throwable", "fillInStackTrace", "(I)Ljava/lang/Throwable;"⟩ ⟨"java/lang/Throwable", "fillInStackTrace", "(I)Ljava/lang/Throwable;"⟩) ∈ lw_all := lw_g (lw_at lw_ms 1 rfl) rfl
theorem qs2 : (Cond.selects "HoistRacks" ⟨"HoistRacks", "failed", "(I)V"⟩ ⟨"HoistRacks", "failed", "(I)V"⟩) ∈ lw_all := lw_g (lw_at lw_ms 2 rfl) rfl
theorem qs3 : (Cond.selects "HoistRacks" ⟨"HoistRacks", "lift", "(I)V"⟩ ⟨"HoistRacks", "lift", "(I)V"⟩) ∈ lw_all := lw_g (lw_at lw_ms 3 rfl) rfl
theorem qs4 : (Cond.selects "HoistRacks" ⟨"HoistRacks", "write", "(I)V"⟩ ⟨"HoistRacks", "write", "(I)V"⟩) ∈ lw_all := lw_g (lw_at lw_ms 4 rfl) rfl
theorem qs5 : (Cond.selects "HoistRacks" ⟨"HoistRacks", "begin", "()V"⟩ ⟨"HoistRacks", "begin", "()V"⟩) ∈ lw_all := lw_g (lw_at lw_ms 5 rfl) rfl
theorem qs6 : (Cond.selects "HoistRacks" ⟨"HoistRacks", "work", "(I)V"⟩ ⟨"HoistRacks", "work", "(I)V"⟩) ∈ lw_all := lw_g (lw_at lw_ms 6 rfl) rfl
theorem qs7 : (Cond.selects "HoistRacks" ⟨"HoistRacks", "sheltered", "(I)V"⟩ ⟨"HoistRacks", "sheltered", "(I)V"⟩) ∈ lw_all := lw_g (lw_at lw_ms 7 rfl) rfl
theorem qs8 : (Cond.selects "HoistRacks" ⟨"HoistRacks", "guarded", "(I)V"⟩ ⟨"HoistRacks", "guarded", "(I)V"⟩) ∈ lw_all := lw_g (lw_at lw_ms 8 rfl) rfl
theorem qs9 : (Cond.selects "HoistRacks" ⟨"HoistRacks", "behind", "(LHoistRacks$Spill;)V"⟩ ⟨"HoistRacks", "behind", "(LHoistRacks$Spill;)V"⟩) ∈ lw_all := lw_g (lw_at lw_ms 9 rfl) rfl
theorem qs10 : (Cond.selects "HoistRacksModel" ⟨"HoistRacksModel", "fails", "(I)V"⟩ ⟨"HoistRacksModel", "fails", "(I)V"⟩) ∈ lw_all := lw_g (lw_at lw_ms 10 rfl) rfl
theorem qs11 : (Cond.selects "HoistRacksModel" ⟨"HoistRacksModel", "begins", "(I)V"⟩ ⟨"HoistRacksModel", "begins", "(I)V"⟩) ∈ lw_all := lw_g (lw_at lw_ms 11 rfl) rfl
theorem qs12 : (Cond.selects "HoistRacksModel" ⟨"HoistRacksModel", "writes", "(I)V"⟩ ⟨"HoistRacksModel", "writes", "(I)V"⟩) ∈ lw_all := lw_g (lw_at lw_ms 12 rfl) rfl
theorem qs13 : (Cond.selects "HoistRacksModel" ⟨"HoistRacksModel", "finishes", "()V"⟩ ⟨"HoistRacksModel", "finishes", "()V"⟩) ∈ lw_all := lw_g (lw_at lw_ms 13 rfl) rfl
theorem qs14 : (Cond.selects "HoistRacksModel" ⟨"HoistRacksModel", "ends", "()V"⟩ ⟨"HoistRacksModel", "ends", "()V"⟩) ∈ lw_all := lw_g (lw_at lw_ms 14 rfl) rfl
theorem qs15 : (Cond.selects "HoistRacksModel" ⟨"HoistRacksModel", "passes", "()V"⟩ ⟨"HoistRacksModel", "passes", "()V"⟩) ∈ lw_all := lw_g (lw_at lw_ms 15 rfl) rfl
theorem qs16 : (Cond.selects "HoistRacksModel" ⟨"HoistRacksModel", "closes", "()V"⟩ ⟨"HoistRacksModel", "closes", "()V"⟩) ∈ lw_all := lw_g (lw_at lw_ms 16 rfl) rfl
theorem qs17 : (Cond.selects "HoistRacksModel" ⟨"HoistRacksModel", "doCell", "()V"⟩ ⟨"HoistRacksModel", "doCell", "()V"⟩) ∈ lw_all := lw_g (lw_at lw_ms 17 rfl) rfl
theorem qs18 : (Cond.selects "HoistRacksModel" ⟨"HoistRacksModel", "up", "()V"⟩ ⟨"HoistRacksModel", "up", "()V"⟩) ∈ lw_all := lw_g (lw_at lw_ms 18 rfl) rfl
theorem qs19 : (Cond.selects "HoistRacksModel" ⟨"HoistRacksModel", "takes", "()Z"⟩ ⟨"HoistRacksModel", "takes", "()Z"⟩) ∈ lw_all := lw_g (lw_at lw_ms 19 rfl) rfl
theorem qs20 : (Cond.selects "HoistRacksModel" ⟨"HoistRacksModel", "cellAtHand", "()I"⟩ ⟨"HoistRacksModel", "cellAtHand", "()I"⟩) ∈ lw_all := lw_g (lw_at lw_ms 20 rfl) rfl
theorem qs21 : (Cond.selects "HoistRacksModel" ⟨"HoistRacksModel", "lifts", "(I)V"⟩ ⟨"HoistRacksModel", "lifts", "(I)V"⟩) ∈ lw_all := lw_g (lw_at lw_ms 21 rfl) rfl
theorem qs22 : (Cond.selects "HoistRacksModel" ⟨"HoistRacksModel", "barrel", "(I)V"⟩ ⟨"HoistRacksModel", "barrel", "(I)V"⟩) ∈ lw_all := lw_g (lw_at lw_ms 22 rfl) rfl
theorem qs23 : (Cond.selects "HoistRacksModel" ⟨"HoistRacksModel", "help", "(I)V"⟩ ⟨"HoistRacksModel", "help", "(I)V"⟩) ∈ lw_all := lw_g (lw_at lw_ms 23 rfl) rfl
theorem qs24 : (Cond.selects "HoistRacksModel" ⟨"HoistRacksModel", "leaves", "(I)V"⟩ ⟨"HoistRacksModel", "leaves", "(I)V"⟩) ∈ lw_all := lw_g (lw_at lw_ms 24 rfl) rfl
end
section
/-! HoistRacks -/
set_option maxRecDepth 100000
def RX0 : String := "HoistRacks"
def TX0 : u_T := fun k => match k with
  | 0 => ("HoistRacks", "racks", "[LHoistRacks$Rack;", true)
  | 1 => ("HoistRacks", "crew", "[LHoistRacks$Hand;", true)
  | 2 => ("HoistRacks", "tare", "I", false)
  | 3 => ("HoistRacks", "load", "I", false)
  | 4 => ("HoistRacks", "total", "I", false)
  | 5 => ("HoistRacks", "begun", "I", false)
  | 6 => ("HoistRacks", "lifts", "I", false)
  | 7 => ("HoistRacks", "mostRopes", "I", false)
  | 8 => ("HoistRacks", "ropes", "I", false)
  | 9 => ("HoistRacks", "brakes", "I", false)
  | 10 => ("HoistRacks", "lamps", "I", false)
  | 11 => ("HoistRacks", "notes", "I", false)
  | 12 => ("HoistRacks", "journal", "[I", true)
  | 13 => ("HoistRacks", "failure", "I", false)
  | 14 => ("HoistRacks", "causes", "I", false)
  | 15 => ("HoistRacks", "last", "I", false)
  | _ => ("HoistRacks", "spilled", "I", false)
def tyX0 : Nat → FieldType := fun k => match k with
  | 0 => .array (.object "HoistRacks$Rack")
  | 1 => .array (.object "HoistRacks$Hand")
  | 2 => .int
  | 3 => .int
  | 4 => .int
  | 5 => .int
  | 6 => .int
  | 7 => .int
  | 8 => .int
  | 9 => .int
  | 10 => .int
  | 11 => .int
  | 12 => .array .int
  | 13 => .int
  | 14 => .int
  | 15 => .int
  | _ => .int
abbrev wsX00 : List Cond := u_ws RX0 TX0 17
set_option maxRecDepth 100000 in
theorem nmX0 : ∀ a, a < 17 → ∀ b, b < 17 → a ≠ b → (TX0 a).2.1 ≠ (TX0 b).2.1 := by decide +kernel
set_option maxRecDepth 100000 in
theorem tyX0_ok : ∀ k, k < 17 → parseFieldDescriptor (TX0 k).2.2.1 = some (tyX0 k) := by decide +kernel
abbrev cX0_init : ByteArray := prog_1_method_2_code
def yX0_init : MethodName := ⟨RX0, "<init>", "()V"⟩
abbrev cX0_cell : ByteArray := prog_1_method_4_code
def yX0_cell : MethodName := ⟨RX0, "cell", "(II)I"⟩
abbrev cX0_isRack : ByteArray := prog_1_method_3_code
def yX0_isRack : MethodName := ⟨RX0, "isRack", "(I)Z"⟩
abbrev cX0_in : ByteArray := prog_1_method_1_code
def yX0_in : MethodName := ⟨RX0, "in", "(III)Z"⟩
abbrev cX0_clear : ByteArray := prog_1_method_5_code
def yX0_clear : MethodName := ⟨RX0, "clear", "(I)I"⟩
abbrev cX0_tare : ByteArray := prog_1_method_6_code
def yX0_tare : MethodName := ⟨RX0, "tare", "(I)I"⟩
abbrev cX0_crew : ByteArray := prog_1_method_7_code
def yX0_crew : MethodName := ⟨RX0, "crew", "(II)I"⟩
abbrev cX0_run : ByteArray := prog_1_method_16_code
def yX0_run : MethodName := ⟨RX0, "run", "(II)I"⟩
abbrev cX0_failed : ByteArray := prog_1_method_14_code
def yX0_failed : MethodName := ⟨RX0, "failed", "(I)V"⟩
abbrev cX0_lift : ByteArray := prog_1_method_9_code
def yX0_lift : MethodName := ⟨RX0, "lift", "(I)V"⟩
abbrev cX0_write : ByteArray := prog_1_method_8_code
def yX0_write : MethodName := ⟨RX0, "write", "(I)V"⟩
abbrev cX0_begin : ByteArray := prog_1_method_10_code
def yX0_begin : MethodName := ⟨RX0, "begin", "()V"⟩
abbrev cX0_work : ByteArray := prog_1_method_11_code
def yX0_work : MethodName := ⟨RX0, "work", "(I)V"⟩
abbrev cX0_sheltered : ByteArray := prog_1_method_13_code
def yX0_sheltered : MethodName := ⟨RX0, "sheltered", "(I)V"⟩
abbrev cX0_guarded : ByteArray := prog_1_method_12_code
def yX0_guarded : MethodName := ⟨RX0, "guarded", "(I)V"⟩
abbrev cX0_behind : ByteArray := prog_1_method_15_code
def yX0_behind : MethodName := ⟨RX0, "behind", "(LHoistRacks$Spill;)V"⟩
abbrev cX0_told : ByteArray := prog_1_method_17_code
def yX0_told : MethodName := ⟨RX0, "told", "(I)I"⟩
abbrev cX0_note : ByteArray := prog_1_method_18_code
def yX0_note : MethodName := ⟨RX0, "note", "(I)I"⟩
abbrev cX0_held : ByteArray := prog_1_method_19_code
def yX0_held : MethodName := ⟨RX0, "held", "(I)I"⟩
abbrev cX0_cells : ByteArray := prog_1_method_20_code
def yX0_cells : MethodName := ⟨RX0, "cells", "(I)I"⟩
theorem q26 : (Jvm.Cond.initialized "HoistRacks") ∈ lw_all := lw_g (lw_at lw_m1 1 rfl) rfl
theorem q42 : (Jvm.Cond.instantiable "HoistRacks" (17 : Nat)) ∈ lw_all := lw_g (lw_at lw_m1 17 rfl) rfl
theorem q44 : (Jvm.Cond.instanceMethod ({ cls := "HoistRacks", name := "<init>", desc := "()V" } : Jvm.MethodName)) ∈ lw_all := lw_g (lw_at lw_m1 19 rfl) rfl
theorem q45 : (Jvm.Cond.code ({ cls := "HoistRacks", name := "<init>", desc := "()V" } : Jvm.MethodName) prog_1_method_2_code (2 : Nat) (Option.none : Option Jvm.ClassFile.FieldType)) ∈ lw_all := lw_g (lw_at lw_m1 20 rfl) rfl
theorem q46 : (Jvm.Cond.methodLink "HoistRacks" (1 : Nat) ({ cls := "java/lang/Object", name := "<init>", desc := "()V" } : Jvm.MethodName)) ∈ lw_all := lw_g (lw_at lw_m1 21 rfl) rfl
theorem q49 : (Jvm.Cond.classLink "HoistRacks" (9 : Nat) "HoistRacks$Rack") ∈ lw_all := lw_g (lw_at lw_m1 24 rfl) rfl
theorem q51 : (Jvm.Cond.classLink "HoistRacks" (15 : Nat) "HoistRacks$Hand") ∈ lw_all := lw_g (lw_at lw_m1 26 rfl) rfl
theorem q54 : (Jvm.Cond.methodLinkNest "HoistRacks" (29 : Nat) ({ cls := "HoistRacks$Rack", name := "<init>", desc := "()V" } : Jvm.MethodName) "HoistRacks") ∈ lw_tbl := lw_at lw_m1 29 rfl
theorem q59 : (Jvm.Cond.fieldLinkNest "HoistRacks" (41 : Nat) "HoistRacks$Rack" "cells" "[I" "HoistRacks") ∈ lw_tbl := lw_at lw_m1 34 rfl
theorem q60 : (Jvm.Cond.fieldLinkNest "HoistRacks" (38 : Nat) "HoistRacks$Rack" "many" "I" "HoistRacks") ∈ lw_tbl := lw_at lw_m1 35 rfl
theorem q67 : (Jvm.Cond.fieldLink "HoistRacks" (11 : Nat) "HoistRacks" "racks" "[LHoistRacks$Rack;") ∈ lw_all := lw_g (lw_at lw_m1 42 rfl) rfl
theorem q68 : (Jvm.Cond.fieldLink "HoistRacks" (17 : Nat) "HoistRacks" "crew" "[LHoistRacks$Hand;") ∈ lw_all := lw_g (lw_at lw_m1 43 rfl) rfl
theorem q69 : (Jvm.Cond.fieldLink "HoistRacks" (44 : Nat) "HoistRacks" "tare" "I") ∈ lw_all := lw_g (lw_at lw_m1 44 rfl) rfl
theorem q70 : (Jvm.Cond.fieldLink "HoistRacks" (101 : Nat) "HoistRacks" "load" "I") ∈ lw_all := lw_g (lw_at lw_m1 45 rfl) rfl
theorem q71 : (Jvm.Cond.fieldLink "HoistRacks" (83 : Nat) "HoistRacks" "total" "I") ∈ lw_all := lw_g (lw_at lw_m1 46 rfl) rfl
theorem q72 : (Jvm.Cond.fieldLink "HoistRacks" (86 : Nat) "HoistRacks" "begun" "I") ∈ lw_all := lw_g (lw_at lw_m1 47 rfl) rfl
theorem q73 : (Jvm.Cond.fieldLink "HoistRacks" (56 : Nat) "HoistRacks" "lifts" "I") ∈ lw_all := lw_g (lw_at lw_m1 48 rfl) rfl
theorem q74 : (Jvm.Cond.fieldLink "HoistRacks" (65 : Nat) "HoistRacks" "mostRopes" "I") ∈ lw_all := lw_g (lw_at lw_m1 49 rfl) rfl
theorem q75 : (Jvm.Cond.fieldLink "HoistRacks" (62 : Nat) "HoistRacks" "ropes" "I") ∈ lw_all := lw_g (lw_at lw_m1 50 rfl) rfl
theorem q76 : (Jvm.Cond.fieldLink "HoistRacks" (71 : Nat) "HoistRacks" "brakes" "I") ∈ lw_all := lw_g (lw_at lw_m1 51 rfl) rfl
theorem q77 : (Jvm.Cond.fieldLink "HoistRacks" (74 : Nat) "HoistRacks" "lamps" "I") ∈ lw_all := lw_g (lw_at lw_m1 52 rfl) rfl
theorem q78 : (Jvm.Cond.fieldLink "HoistRacks" (53 : Nat) "HoistRacks" "notes" "I") ∈ lw_all := lw_g (lw_at lw_m1 53 rfl) rfl
theorem q79 : (Jvm.Cond.fieldLink "HoistRacks" (21 : Nat) "HoistRacks" "journal" "[I") ∈ lw_all := lw_g (lw_at lw_m1 54 rfl) rfl
theorem q80 : (Jvm.Cond.fieldLink "HoistRacks" (118 : Nat) "HoistRacks" "failure" "I") ∈ lw_all := lw_g (lw_at lw_m1 55 rfl) rfl
theorem q81 : (Jvm.Cond.fieldLink "HoistRacks" (136 : Nat) "HoistRacks" "causes" "I") ∈ lw_all := lw_g (lw_at lw_m1 56 rfl) rfl
theorem q82 : (Jvm.Cond.fieldLink "HoistRacks" (121 : Nat) "HoistRacks" "last" "I") ∈ lw_all := lw_g (lw_at lw_m1 57 rfl) rfl
theorem q83 : (Jvm.Cond.fieldLink "HoistRacks" (25 : Nat) "HoistRacks" "spilled" "I") ∈ lw_all := lw_g (lw_at lw_m1 58 rfl) rfl
theorem q84 : (Jvm.Cond.laysFinal "HoistRacks" "HoistRacks" "racks" "[LHoistRacks$Rack;") ∈ lw_all := lw_g (lw_at lw_m1 59 rfl) rfl
theorem q85 : (Jvm.Cond.soleField "HoistRacks" "racks") ∈ lw_all := lw_g (lw_at lw_m1 60 rfl) rfl
theorem q86 : (Jvm.Cond.laysFinal "HoistRacks" "HoistRacks" "crew" "[LHoistRacks$Hand;") ∈ lw_all := lw_g (lw_at lw_m1 61 rfl) rfl
theorem q87 : (Jvm.Cond.soleField "HoistRacks" "crew") ∈ lw_all := lw_g (lw_at lw_m1 62 rfl) rfl
theorem q88 : (Jvm.Cond.lays "HoistRacks" "HoistRacks" "tare" "I") ∈ lw_all := lw_g (lw_at lw_m1 63 rfl) rfl
theorem q89 : (Jvm.Cond.soleField "HoistRacks" "tare") ∈ lw_all := lw_g (lw_at lw_m1 64 rfl) rfl
theorem q90 : (Jvm.Cond.lays "HoistRacks" "HoistRacks" "load" "I") ∈ lw_all := lw_g (lw_at lw_m1 65 rfl) rfl
theorem q91 : (Jvm.Cond.soleField "HoistRacks" "load") ∈ lw_all := lw_g (lw_at lw_m1 66 rfl) rfl
theorem q92 : (Jvm.Cond.lays "HoistRacks" "HoistRacks" "total" "I") ∈ lw_all := lw_g (lw_at lw_m1 67 rfl) rfl
theorem q93 : (Jvm.Cond.soleField "HoistRacks" "total") ∈ lw_all := lw_g (lw_at lw_m1 68 rfl) rfl
theorem q94 : (Jvm.Cond.lays "HoistRacks" "HoistRacks" "begun" "I") ∈ lw_all := lw_g (lw_at lw_m1 69 rfl) rfl
theorem q95 : (Jvm.Cond.soleField "HoistRacks" "begun") ∈ lw_all := lw_g (lw_at lw_m1 70 rfl) rfl
theorem q96 : (Jvm.Cond.lays "HoistRacks" "HoistRacks" "lifts" "I") ∈ lw_all := lw_g (lw_at lw_m1 71 rfl) rfl
theorem q97 : (Jvm.Cond.soleField "HoistRacks" "lifts") ∈ lw_all := lw_g (lw_at lw_m1 72 rfl) rfl
theorem q98 : (Jvm.Cond.lays "HoistRacks" "HoistRacks" "mostRopes" "I") ∈ lw_all := lw_g (lw_at lw_m1 73 rfl) rfl
theorem q99 : (Jvm.Cond.soleField "HoistRacks" "mostRopes") ∈ lw_all := lw_g (lw_at lw_m1 74 rfl) rfl
theorem q100 : (Jvm.Cond.lays "HoistRacks" "HoistRacks" "ropes" "I") ∈ lw_all := lw_g (lw_at lw_m1 75 rfl) rfl
theorem q101 : (Jvm.Cond.soleField "HoistRacks" "ropes") ∈ lw_all := lw_g (lw_at lw_m1 76 rfl) rfl
theorem q102 : (Jvm.Cond.lays "HoistRacks" "HoistRacks" "brakes" "I") ∈ lw_all := lw_g (lw_at lw_m1 77 rfl) rfl
theorem q103 : (Jvm.Cond.soleField "HoistRacks" "brakes") ∈ lw_all := lw_g (lw_at lw_m1 78 rfl) rfl
theorem q104 : (Jvm.Cond.lays "HoistRacks" "HoistRacks" "lamps" "I") ∈ lw_all := lw_g (lw_at lw_m1 79 rfl) rfl
theorem q105 : (Jvm.Cond.soleField "HoistRacks" "lamps") ∈ lw_all := lw_g (lw_at lw_m1 80 rfl) rfl
theorem q106 : (Jvm.Cond.lays "HoistRacks" "HoistRacks" "notes" "I") ∈ lw_all := lw_g (lw_at lw_m1 81 rfl) rfl
theorem q107 : (Jvm.Cond.soleField "HoistRacks" "notes") ∈ lw_all := lw_g (lw_at lw_m1 82 rfl) rfl
theorem q108 : (Jvm.Cond.laysFinal "HoistRacks" "HoistRacks" "journal" "[I") ∈ lw_all := lw_g (lw_at lw_m1 83 rfl) rfl
theorem q109 : (Jvm.Cond.soleField "HoistRacks" "journal") ∈ lw_all := lw_g (lw_at lw_m1 84 rfl) rfl
theorem q110 : (Jvm.Cond.lays "HoistRacks" "HoistRacks" "failure" "I") ∈ lw_all := lw_g (lw_at lw_m1 85 rfl) rfl
theorem q111 : (Jvm.Cond.soleField "HoistRacks" "failure") ∈ lw_all := lw_g (lw_at lw_m1 86 rfl) rfl
theorem q112 : (Jvm.Cond.lays "HoistRacks" "HoistRacks" "causes" "I") ∈ lw_all := lw_g (lw_at lw_m1 87 rfl) rfl
theorem q113 : (Jvm.Cond.soleField "HoistRacks" "causes") ∈ lw_all := lw_g (lw_at lw_m1 88 rfl) rfl
theorem q114 : (Jvm.Cond.lays "HoistRacks" "HoistRacks" "last" "I") ∈ lw_all := lw_g (lw_at lw_m1 89 rfl) rfl
theorem q115 : (Jvm.Cond.soleField "HoistRacks" "last") ∈ lw_all := lw_g (lw_at lw_m1 90 rfl) rfl
theorem q116 : (Jvm.Cond.lays "HoistRacks" "HoistRacks" "spilled" "I") ∈ lw_all := lw_g (lw_at lw_m1 91 rfl) rfl
theorem q117 : (Jvm.Cond.soleField "HoistRacks" "spilled") ∈ lw_all := lw_g (lw_at lw_m1 92 rfl) rfl
theorem q118 : (Jvm.Cond.superclass "HoistRacks" "java/lang/Object") ∈ lw_all := lw_g (lw_at lw_m1 93 rfl) rfl
theorem q120 : (Jvm.Cond.instanceMethod ({ cls := "HoistRacks", name := "cell", desc := "(II)I" } : Jvm.MethodName)) ∈ lw_all := lw_g (lw_at lw_m1 95 rfl) rfl
theorem q121 : (Jvm.Cond.selects "HoistRacks" ({ cls := "HoistRacks", name := "cell", desc := "(II)I" } : Jvm.MethodName) ({ cls := "HoistRacks", name := "cell", desc := "(II)I" } : Jvm.MethodName)) ∈ lw_all := lw_g (lw_at lw_m1 96 rfl) rfl
theorem q122 : (Jvm.Cond.code ({ cls := "HoistRacks", name := "cell", desc := "(II)I" } : Jvm.MethodName) prog_1_method_4_code (5 : Nat) (Option.some Jvm.ClassFile.FieldType.int)) ∈ lw_all := lw_g (lw_at lw_m1 97 rfl) rfl
theorem q123 : (Jvm.Cond.methodLink "HoistRacks" (34 : Nat) ({ cls := "HoistRacks", name := "isRack", desc := "(I)Z" } : Jvm.MethodName)) ∈ lw_all := lw_g (lw_at lw_m1 98 rfl) rfl
theorem q124 : (Jvm.Cond.static ({ cls := "HoistRacks", name := "isRack", desc := "(I)Z" } : Jvm.MethodName)) ∈ lw_all := lw_g (lw_at lw_m1 99 rfl) rfl
theorem q125 : (Jvm.Cond.code ({ cls := "HoistRacks", name := "isRack", desc := "(I)Z" } : Jvm.MethodName) prog_1_method_3_code (1 : Nat) (Option.some Jvm.ClassFile.FieldType.boolean)) ∈ lw_all := lw_g (lw_at lw_m1 100 rfl) rfl
theorem q126 : (Jvm.Cond.methodLink "HoistRacks" (30 : Nat) ({ cls := "HoistRacks", name := "in", desc := "(III)Z" } : Jvm.MethodName)) ∈ lw_all := lw_g (lw_at lw_m1 101 rfl) rfl
theorem q127 : (Jvm.Cond.static ({ cls := "HoistRacks", name := "in", desc := "(III)Z" } : Jvm.MethodName)) ∈ lw_all := lw_g (lw_at lw_m1 102 rfl) rfl
theorem q128 : (Jvm.Cond.code ({ cls := "HoistRacks", name := "in", desc := "(III)Z" } : Jvm.MethodName) prog_1_method_1_code (3 : Nat) (Option.some Jvm.ClassFile.FieldType.boolean)) ∈ lw_all := lw_g (lw_at lw_m1 103 rfl) rfl
theorem q130 : (Jvm.Cond.instanceMethod ({ cls := "HoistRacks", name := "clear", desc := "(I)I" } : Jvm.MethodName)) ∈ lw_all := lw_g (lw_at lw_m1 105 rfl) rfl
theorem q131 : (Jvm.Cond.selects "HoistRacks" ({ cls := "HoistRacks", name := "clear", desc := "(I)I" } : Jvm.MethodName) ({ cls := "HoistRacks", name := "clear", desc := "(I)I" } : Jvm.MethodName)) ∈ lw_all := lw_g (lw_at lw_m1 106 rfl) rfl
theorem q132 : (Jvm.Cond.code ({ cls := "HoistRacks", name := "clear", desc := "(I)I" } : Jvm.MethodName) prog_1_method_5_code (3 : Nat) (Option.some Jvm.ClassFile.FieldType.int)) ∈ lw_all := lw_g (lw_at lw_m1 107 rfl) rfl
theorem q134 : (Jvm.Cond.instanceMethod ({ cls := "HoistRacks", name := "tare", desc := "(I)I" } : Jvm.MethodName)) ∈ lw_all := lw_g (lw_at lw_m1 109 rfl) rfl
theorem q135 : (Jvm.Cond.selects "HoistRacks" ({ cls := "HoistRacks", name := "tare", desc := "(I)I" } : Jvm.MethodName) ({ cls := "HoistRacks", name := "tare", desc := "(I)I" } : Jvm.MethodName)) ∈ lw_all := lw_g (lw_at lw_m1 110 rfl) rfl
theorem q136 : (Jvm.Cond.code ({ cls := "HoistRacks", name := "tare", desc := "(I)I" } : Jvm.MethodName) prog_1_method_6_code (3 : Nat) (Option.some Jvm.ClassFile.FieldType.int)) ∈ lw_all := lw_g (lw_at lw_m1 111 rfl) rfl
theorem q138 : (Jvm.Cond.instanceMethod ({ cls := "HoistRacks", name := "crew", desc := "(II)I" } : Jvm.MethodName)) ∈ lw_all := lw_g (lw_at lw_m1 113 rfl) rfl
theorem q139 : (Jvm.Cond.selects "HoistRacks" ({ cls := "HoistRacks", name := "crew", desc := "(II)I" } : Jvm.MethodName) ({ cls := "HoistRacks", name := "crew", desc := "(II)I" } : Jvm.MethodName)) ∈ lw_all := lw_g (lw_at lw_m1 114 rfl) rfl
theorem q140 : (Jvm.Cond.code ({ cls := "HoistRacks", name := "crew", desc := "(II)I" } : Jvm.MethodName) prog_1_method_7_code (4 : Nat) (Option.some Jvm.ClassFile.FieldType.int)) ∈ lw_all := lw_g (lw_at lw_m1 115 rfl) rfl
theorem q142 : (Jvm.Cond.methodLink "HoistRacks" (50 : Nat) ({ cls := "HoistRacks$Hand", name := "<init>", desc := "(I)V" } : Jvm.MethodName)) ∈ lw_all := lw_g (lw_at lw_m1 117 rfl) rfl
theorem q147 : (Jvm.Cond.fieldLinkNest "HoistRacks" (47 : Nat) "HoistRacks$Hand" "hands" "I" "HoistRacks") ∈ lw_tbl := lw_at lw_m1 122 rfl
theorem q152 : (Jvm.Cond.instanceMethod ({ cls := "HoistRacks", name := "run", desc := "(II)I" } : Jvm.MethodName)) ∈ lw_all := lw_g (lw_at lw_m1 127 rfl) rfl
theorem q153 : (Jvm.Cond.selects "HoistRacks" ({ cls := "HoistRacks", name := "run", desc := "(II)I" } : Jvm.MethodName) ({ cls := "HoistRacks", name := "run", desc := "(II)I" } : Jvm.MethodName)) ∈ lw_all := lw_g (lw_at lw_m1 128 rfl) rfl
theorem q154 : (Jvm.Cond.codeWith ({ cls := "HoistRacks", name := "run", desc := "(II)I" } : Jvm.MethodName) prog_1_method_16_code (4 : Nat) (Option.some Jvm.ClassFile.FieldType.int) [((50 : Nat), (55 : Nat), (58 : Nat), (59 : Nat)), ((50 : Nat), (55 : Nat), (70 : Nat), (104 : Nat)), ((50 : Nat), (55 : Nat), (79 : Nat), (89 : Nat)), ((50 : Nat), (55 : Nat), (89 : Nat), (109 : Nat)), ((50 : Nat), (55 : Nat), (98 : Nat), (111 : Nat)), ((50 : Nat), (55 : Nat), (107 : Nat), (113 : Nat))]) ∈ lw_all := lw_g (lw_at lw_m1 129 rfl) rfl
theorem q155 : (Jvm.Cond.classLink "HoistRacks" (59 : Nat) "HoistRacks$Stuck") ∈ lw_all := lw_g (lw_at lw_m1 130 rfl) rfl
theorem q156 : (Jvm.Cond.classLink "HoistRacks" (104 : Nat) "HoistRacks$Spill") ∈ lw_all := lw_g (lw_at lw_m1 131 rfl) rfl
theorem q157 : (Jvm.Cond.classLink "HoistRacks" (89 : Nat) "HoistRacks$Weary") ∈ lw_all := lw_g (lw_at lw_m1 132 rfl) rfl
theorem q158 : (Jvm.Cond.classLink "HoistRacks" (109 : Nat) "java/lang/ArithmeticException") ∈ lw_all := lw_g (lw_at lw_m1 133 rfl) rfl
theorem q245 : (Jvm.Cond.classLink "HoistRacks" (111 : Nat) "java/lang/NullPointerException") ∈ lw_all := lw_g (lw_at lw_m1 220 rfl) rfl
theorem q270 : (Jvm.Cond.classLink "HoistRacks" (113 : Nat) "java/lang/ArrayIndexOutOfBoundsException") ∈ lw_all := lw_g (lw_at lw_m2 5 rfl) rfl
theorem q289 : (Jvm.Cond.methodLink "HoistRacks" (124 : Nat) ({ cls := "HoistRacks", name := "failed", desc := "(I)V" } : Jvm.MethodName)) ∈ lw_all := lw_g (lw_at lw_m2 24 rfl) rfl
theorem q290 : (Jvm.Cond.privateMethod ({ cls := "HoistRacks", name := "failed", desc := "(I)V" } : Jvm.MethodName)) ∈ lw_tbl := lw_at lw_m2 25 rfl
theorem q291 : (Jvm.Cond.instanceMethod ({ cls := "HoistRacks", name := "failed", desc := "(I)V" } : Jvm.MethodName)) ∈ lw_all := lw_g (lw_at lw_m2 26 rfl) rfl
theorem q292 : (Jvm.Cond.code ({ cls := "HoistRacks", name := "failed", desc := "(I)V" } : Jvm.MethodName) prog_1_method_14_code (2 : Nat) (Option.none : Option Jvm.ClassFile.FieldType)) ∈ lw_all := lw_g (lw_at lw_m2 27 rfl) rfl
theorem q293 : (Jvm.Cond.methodLink "HoistRacks" (98 : Nat) ({ cls := "HoistRacks", name := "lift", desc := "(I)V" } : Jvm.MethodName)) ∈ lw_all := lw_g (lw_at lw_m2 28 rfl) rfl
theorem q294 : (Jvm.Cond.privateMethod ({ cls := "HoistRacks", name := "lift", desc := "(I)V" } : Jvm.MethodName)) ∈ lw_tbl := lw_at lw_m2 29 rfl
theorem q295 : (Jvm.Cond.instanceMethod ({ cls := "HoistRacks", name := "lift", desc := "(I)V" } : Jvm.MethodName)) ∈ lw_all := lw_g (lw_at lw_m2 30 rfl) rfl
theorem q296 : (Jvm.Cond.codeWith ({ cls := "HoistRacks", name := "lift", desc := "(I)V" } : Jvm.MethodName) prog_1_method_9_code (8 : Nat) (Option.none : Option Jvm.ClassFile.FieldType) [((125 : Nat), (136 : Nat), (303 : Nat), (0 : Nat)), ((171 : Nat), (178 : Nat), (303 : Nat), (0 : Nat)), ((213 : Nat), (220 : Nat), (303 : Nat), (0 : Nat)), ((278 : Nat), (284 : Nat), (303 : Nat), (0 : Nat)), ((303 : Nat), (305 : Nat), (303 : Nat), (0 : Nat)), ((110 : Nat), (152 : Nat), (343 : Nat), (0 : Nat)), ((171 : Nat), (194 : Nat), (343 : Nat), (0 : Nat)), ((213 : Nat), (236 : Nat), (343 : Nat), (0 : Nat)), ((278 : Nat), (324 : Nat), (343 : Nat), (0 : Nat)), ((343 : Nat), (345 : Nat), (343 : Nat), (0 : Nat)), ((77 : Nat), (252 : Nat), (418 : Nat), (0 : Nat)), ((278 : Nat), (390 : Nat), (418 : Nat), (0 : Nat)), ((418 : Nat), (420 : Nat), (418 : Nat), (0 : Nat))]) ∈ lw_all := lw_g (lw_at lw_m2 31 rfl) rfl
theorem q305 : (Jvm.Cond.methodLink "HoistRacks" (61 : Nat) ({ cls := "HoistRacks$Stuck", name := "<init>", desc := "(I)V" } : Jvm.MethodName)) ∈ lw_all := lw_g (lw_at lw_m2 40 rfl) rfl
theorem q316 : (Jvm.Cond.fieldLinkNest "HoistRacks" (115 : Nat) "HoistRacks$Stuck" "kind" "I" "HoistRacks") ∈ lw_tbl := lw_at lw_m2 51 rfl
theorem q321 : (Jvm.Cond.methodLink "HoistRacks" (68 : Nat) ({ cls := "HoistRacks", name := "write", desc := "(I)V" } : Jvm.MethodName)) ∈ lw_all := lw_g (lw_at lw_m2 56 rfl) rfl
theorem q322 : (Jvm.Cond.privateMethod ({ cls := "HoistRacks", name := "write", desc := "(I)V" } : Jvm.MethodName)) ∈ lw_tbl := lw_at lw_m2 57 rfl
theorem q323 : (Jvm.Cond.instanceMethod ({ cls := "HoistRacks", name := "write", desc := "(I)V" } : Jvm.MethodName)) ∈ lw_all := lw_g (lw_at lw_m2 58 rfl) rfl
theorem q324 : (Jvm.Cond.code ({ cls := "HoistRacks", name := "write", desc := "(I)V" } : Jvm.MethodName) prog_1_method_8_code (2 : Nat) (Option.none : Option Jvm.ClassFile.FieldType)) ∈ lw_all := lw_g (lw_at lw_m2 59 rfl) rfl
theorem q325 : (Jvm.Cond.methodLink "HoistRacks" (77 : Nat) ({ cls := "HoistRacks", name := "begin", desc := "()V" } : Jvm.MethodName)) ∈ lw_all := lw_g (lw_at lw_m2 60 rfl) rfl
theorem q326 : (Jvm.Cond.privateMethod ({ cls := "HoistRacks", name := "begin", desc := "()V" } : Jvm.MethodName)) ∈ lw_tbl := lw_at lw_m2 61 rfl
theorem q327 : (Jvm.Cond.instanceMethod ({ cls := "HoistRacks", name := "begin", desc := "()V" } : Jvm.MethodName)) ∈ lw_all := lw_g (lw_at lw_m2 62 rfl) rfl
theorem q328 : (Jvm.Cond.code ({ cls := "HoistRacks", name := "begin", desc := "()V" } : Jvm.MethodName) prog_1_method_10_code (1 : Nat) (Option.none : Option Jvm.ClassFile.FieldType)) ∈ lw_all := lw_g (lw_at lw_m2 63 rfl) rfl
theorem q337 : (Jvm.Cond.methodLink "HoistRacks" (91 : Nat) ({ cls := "HoistRacks$Weary", name := "<init>", desc := "()V" } : Jvm.MethodName)) ∈ lw_all := lw_g (lw_at lw_m2 72 rfl) rfl
theorem q344 : (Jvm.Cond.methodLink "HoistRacks" (80 : Nat) ({ cls := "HoistRacks", name := "work", desc := "(I)V" } : Jvm.MethodName)) ∈ lw_all := lw_g (lw_at lw_m2 79 rfl) rfl
theorem q345 : (Jvm.Cond.privateMethod ({ cls := "HoistRacks", name := "work", desc := "(I)V" } : Jvm.MethodName)) ∈ lw_tbl := lw_at lw_m2 80 rfl
theorem q346 : (Jvm.Cond.instanceMethod ({ cls := "HoistRacks", name := "work", desc := "(I)V" } : Jvm.MethodName)) ∈ lw_all := lw_g (lw_at lw_m2 81 rfl) rfl
theorem q347 : (Jvm.Cond.code ({ cls := "HoistRacks", name := "work", desc := "(I)V" } : Jvm.MethodName) prog_1_method_11_code (2 : Nat) (Option.none : Option Jvm.ClassFile.FieldType)) ∈ lw_all := lw_g (lw_at lw_m2 82 rfl) rfl
theorem q348 : (Jvm.Cond.methodLink "HoistRacks" (92 : Nat) ({ cls := "HoistRacks", name := "sheltered", desc := "(I)V" } : Jvm.MethodName)) ∈ lw_all := lw_g (lw_at lw_m2 83 rfl) rfl
theorem q349 : (Jvm.Cond.privateMethod ({ cls := "HoistRacks", name := "sheltered", desc := "(I)V" } : Jvm.MethodName)) ∈ lw_tbl := lw_at lw_m2 84 rfl
theorem q350 : (Jvm.Cond.instanceMethod ({ cls := "HoistRacks", name := "sheltered", desc := "(I)V" } : Jvm.MethodName)) ∈ lw_all := lw_g (lw_at lw_m2 85 rfl) rfl
theorem q351 : (Jvm.Cond.codeWith ({ cls := "HoistRacks", name := "sheltered", desc := "(I)V" } : Jvm.MethodName) prog_1_method_13_code (4 : Nat) (Option.none : Option Jvm.ClassFile.FieldType) [((2 : Nat), (7 : Nat), (10 : Nat), (59 : Nat)), ((2 : Nat), (7 : Nat), (19 : Nat), (104 : Nat)), ((2 : Nat), (7 : Nat), (25 : Nat), (109 : Nat)), ((2 : Nat), (7 : Nat), (31 : Nat), (111 : Nat)), ((2 : Nat), (7 : Nat), (37 : Nat), (113 : Nat))]) ∈ lw_all := lw_g (lw_at lw_m2 86 rfl) rfl
theorem q352 : (Jvm.Cond.methodLink "HoistRacks" (95 : Nat) ({ cls := "HoistRacks", name := "guarded", desc := "(I)V" } : Jvm.MethodName)) ∈ lw_all := lw_g (lw_at lw_m2 87 rfl) rfl
theorem q353 : (Jvm.Cond.privateMethod ({ cls := "HoistRacks", name := "guarded", desc := "(I)V" } : Jvm.MethodName)) ∈ lw_tbl := lw_at lw_m2 88 rfl
theorem q354 : (Jvm.Cond.instanceMethod ({ cls := "HoistRacks", name := "guarded", desc := "(I)V" } : Jvm.MethodName)) ∈ lw_all := lw_g (lw_at lw_m2 89 rfl) rfl
theorem q355 : (Jvm.Cond.codeWith ({ cls := "HoistRacks", name := "guarded", desc := "(I)V" } : Jvm.MethodName) prog_1_method_12_code (3 : Nat) (Option.none : Option Jvm.ClassFile.FieldType) [((0 : Nat), (5 : Nat), (8 : Nat), (59 : Nat)), ((0 : Nat), (5 : Nat), (19 : Nat), (104 : Nat)), ((0 : Nat), (5 : Nat), (30 : Nat), (109 : Nat)), ((0 : Nat), (5 : Nat), (41 : Nat), (111 : Nat)), ((0 : Nat), (5 : Nat), (52 : Nat), (113 : Nat))]) ∈ lw_all := lw_g (lw_at lw_m2 90 rfl) rfl
theorem q364 : (Jvm.Cond.methodLink "HoistRacks" (106 : Nat) ({ cls := "HoistRacks$Spill", name := "<init>", desc := "(ILjava/lang/Exception;)V" } : Jvm.MethodName)) ∈ lw_all := lw_g (lw_at lw_m2 99 rfl) rfl
theorem q370 : (Jvm.Cond.fieldLinkNest "HoistRacks" (127 : Nat) "HoistRacks$Spill" "rack" "I" "HoistRacks") ∈ lw_tbl := lw_at lw_m2 105 rfl
theorem q375 : (Jvm.Cond.methodLink "HoistRacks" (139 : Nat) ({ cls := "HoistRacks", name := "behind", desc := "(LHoistRacks$Spill;)V" } : Jvm.MethodName)) ∈ lw_all := lw_g (lw_at lw_m2 110 rfl) rfl
theorem q376 : (Jvm.Cond.privateMethod ({ cls := "HoistRacks", name := "behind", desc := "(LHoistRacks$Spill;)V" } : Jvm.MethodName)) ∈ lw_tbl := lw_at lw_m2 111 rfl
theorem q377 : (Jvm.Cond.instanceMethod ({ cls := "HoistRacks", name := "behind", desc := "(LHoistRacks$Spill;)V" } : Jvm.MethodName)) ∈ lw_all := lw_g (lw_at lw_m2 112 rfl) rfl
theorem q378 : (Jvm.Cond.code ({ cls := "HoistRacks", name := "behind", desc := "(LHoistRacks$Spill;)V" } : Jvm.MethodName) prog_1_method_15_code (3 : Nat) (Option.none : Option Jvm.ClassFile.FieldType)) ∈ lw_all := lw_g (lw_at lw_m2 113 rfl) rfl
theorem q379 : (Jvm.Cond.methodLink "HoistRacks" (130 : Nat) ({ cls := "java/lang/Throwable", name := "getCause", desc := "()Ljava/lang/Throwable;" } : Jvm.MethodName)) ∈ lw_all := lw_g (lw_at lw_m2 114 rfl) rfl
theorem q390 : (Jvm.Cond.instanceMethod ({ cls := "HoistRacks", name := "told", desc := "(I)I" } : Jvm.MethodName)) ∈ lw_all := lw_g (lw_at lw_m2 125 rfl) rfl
theorem q391 : (Jvm.Cond.selects "HoistRacks" ({ cls := "HoistRacks", name := "told", desc := "(I)I" } : Jvm.MethodName) ({ cls := "HoistRacks", name := "told", desc := "(I)I" } : Jvm.MethodName)) ∈ lw_all := lw_g (lw_at lw_m2 126 rfl) rfl
theorem q392 : (Jvm.Cond.code ({ cls := "HoistRacks", name := "told", desc := "(I)I" } : Jvm.MethodName) prog_1_method_17_code (2 : Nat) (Option.some Jvm.ClassFile.FieldType.int)) ∈ lw_all := lw_g (lw_at lw_m2 127 rfl) rfl
theorem q394 : (Jvm.Cond.instanceMethod ({ cls := "HoistRacks", name := "note", desc := "(I)I" } : Jvm.MethodName)) ∈ lw_all := lw_g (lw_at lw_m2 129 rfl) rfl
theorem q395 : (Jvm.Cond.selects "HoistRacks" ({ cls := "HoistRacks", name := "note", desc := "(I)I" } : Jvm.MethodName) ({ cls := "HoistRacks", name := "note", desc := "(I)I" } : Jvm.MethodName)) ∈ lw_all := lw_g (lw_at lw_m2 130 rfl) rfl
theorem q396 : (Jvm.Cond.code ({ cls := "HoistRacks", name := "note", desc := "(I)I" } : Jvm.MethodName) prog_1_method_18_code (2 : Nat) (Option.some Jvm.ClassFile.FieldType.int)) ∈ lw_all := lw_g (lw_at lw_m2 131 rfl) rfl
theorem q398 : (Jvm.Cond.instanceMethod ({ cls := "HoistRacks", name := "held", desc := "(I)I" } : Jvm.MethodName)) ∈ lw_all := lw_g (lw_at lw_m2 133 rfl) rfl
theorem q399 : (Jvm.Cond.selects "HoistRacks" ({ cls := "HoistRacks", name := "held", desc := "(I)I" } : Jvm.MethodName) ({ cls := "HoistRacks", name := "held", desc := "(I)I" } : Jvm.MethodName)) ∈ lw_all := lw_g (lw_at lw_m2 134 rfl) rfl
theorem q400 : (Jvm.Cond.code ({ cls := "HoistRacks", name := "held", desc := "(I)I" } : Jvm.MethodName) prog_1_method_19_code (2 : Nat) (Option.some Jvm.ClassFile.FieldType.int)) ∈ lw_all := lw_g (lw_at lw_m2 135 rfl) rfl
theorem q402 : (Jvm.Cond.instanceMethod ({ cls := "HoistRacks", name := "cells", desc := "(I)I" } : Jvm.MethodName)) ∈ lw_all := lw_g (lw_at lw_m2 137 rfl) rfl
theorem q403 : (Jvm.Cond.selects "HoistRacks" ({ cls := "HoistRacks", name := "cells", desc := "(I)I" } : Jvm.MethodName) ({ cls := "HoistRacks", name := "cells", desc := "(I)I" } : Jvm.MethodName)) ∈ lw_all := lw_g (lw_at lw_m2 138 rfl) rfl
theorem q404 : (Jvm.Cond.code ({ cls := "HoistRacks", name := "cells", desc := "(I)I" } : Jvm.MethodName) prog_1_method_20_code (2 : Nat) (Option.some Jvm.ClassFile.FieldType.int)) ∈ lw_all := lw_g (lw_at lw_m2 139 rfl) rfl
theorem in_X0 : ∀ w ∈ wsX00, w ∈ lw_all := lw_in wsX00 [84, 86, 88, 90, 92, 94, 96, 98, 100, 102, 104, 106, 108, 110, 112, 114, 116] (by decide +kernel) (by decide +kernel)
/-! java/lang/Throwable -/
set_option maxRecDepth 100000
def RJ0 : String := "java/lang/Throwable"
def TJ0 : u_T := fun k => match k with
  | 0 => ("java/lang/Throwable", "cause", "Ljava/lang/Throwable;", false)
  | 1 => ("java/lang/Throwable", "stackTrace", "[Ljava/lang/StackTraceElement;", false)
  | 2 => ("java/lang/Throwable", "suppressedExceptions", "Ljava/util/List;", false)
  | 3 => ("java/lang/Throwable", "detailMessage", "Ljava/lang/String;", false)
  | _ => ("java/lang/Throwable", "backtrace", "Ljava/lang/Object;", false)
def tyJ0 : Nat → FieldType := fun k => match k with
  | 0 => .object "java/lang/Throwable"
  | 1 => .array (.object "java/lang/StackTraceElement")
  | 2 => .object "java/util/List"
  | 3 => .object "java/lang/String"
  | _ => .object "java/lang/Object"
abbrev wsJ00 : List Cond := u_ws RJ0 TJ0 5
theorem nmJ0 : ∀ a, a < 5 → ∀ b, b < 5 → a ≠ b → (TJ0 a).2.1 ≠ (TJ0 b).2.1 := by decide +kernel
theorem tyJ0_ok : ∀ k, k < 5 → parseFieldDescriptor (TJ0 k).2.2.1 = some (tyJ0 k) := by decide +kernel
abbrev cJ0_init : ByteArray := prog_16_method_2_code
def yJ0_init : MethodName := ⟨RJ0, "<init>", "(Ljava/lang/String;)V"⟩
theorem dJ0_init_0 : decode cJ0_init 0 = .ok (.aload_n 0, 1) := by decide +kernel
theorem dJ0_init_1 : decode cJ0_init 1 = .ok (.invokespecial 1, 3) := by decide +kernel
theorem dJ0_init_4 : decode cJ0_init 4 = .ok (.aload_n 0, 1) := by decide +kernel
theorem dJ0_init_5 : decode cJ0_init 5 = .ok (.aload_n 0, 1) := by decide +kernel
theorem dJ0_init_6 : decode cJ0_init 6 = .ok (.putfield 7, 3) := by decide +kernel
theorem dJ0_init_9 : decode cJ0_init 9 = .ok (.aload_n 0, 1) := by decide +kernel
theorem dJ0_init_10 : decode cJ0_init 10 = .ok (.getstatic 13, 3) := by decide +kernel
theorem dJ0_init_13 : decode cJ0_init 13 = .ok (.putfield 17, 3) := by decide +kernel
theorem dJ0_init_16 : decode cJ0_init 16 = .ok (.aload_n 0, 1) := by decide +kernel
theorem dJ0_init_17 : decode cJ0_init 17 = .ok (.getstatic 20, 3) := by decide +kernel
theorem dJ0_init_20 : decode cJ0_init 20 = .ok (.putfield 24, 3) := by decide +kernel
theorem dJ0_init_23 : decode cJ0_init 23 = .ok (.aload_n 0, 1) := by decide +kernel
theorem dJ0_init_24 : decode cJ0_init 24 = .ok (.invokevirtual 27, 3) := by decide +kernel
theorem dJ0_init_27 : decode cJ0_init 27 = .ok (.pop, 1) := by decide +kernel
theorem dJ0_init_28 : decode cJ0_init 28 = .ok (.aload_n 0, 1) := by decide +kernel
theorem dJ0_init_29 : decode cJ0_init 29 = .ok (.aload_n 1, 1) := by decide +kernel
theorem dJ0_init_30 : decode cJ0_init 30 = .ok (.putfield 31, 3) := by decide +kernel
theorem dJ0_init_33 : decode cJ0_init 33 = .ok (.return_, 1) := by decide +kernel
abbrev cJ0_init_2 : ByteArray := prog_16_method_1_code
def yJ0_init_2 : MethodName := ⟨RJ0, "<init>", "()V"⟩
theorem dJ0_init_2_0 : decode cJ0_init_2 0 = .ok (.aload_n 0, 1) := by decide +kernel
theorem dJ0_init_2_1 : decode cJ0_init_2 1 = .ok (.invokespecial 1, 3) := by decide +kernel
theorem dJ0_init_2_4 : decode cJ0_init_2 4 = .ok (.aload_n 0, 1) := by decide +kernel
theorem dJ0_init_2_5 : decode cJ0_init_2 5 = .ok (.aload_n 0, 1) := by decide +kernel
theorem dJ0_init_2_6 : decode cJ0_init_2 6 = .ok (.putfield 7, 3) := by decide +kernel
theorem dJ0_init_2_9 : decode cJ0_init_2 9 = .ok (.aload_n 0, 1) := by decide +kernel
theorem dJ0_init_2_10 : decode cJ0_init_2 10 = .ok (.getstatic 13, 3) := by decide +kernel
theorem dJ0_init_2_13 : decode cJ0_init_2 13 = .ok (.putfield 17, 3) := by decide +kernel
theorem dJ0_init_2_16 : decode cJ0_init_2 16 = .ok (.aload_n 0, 1) := by decide +kernel
theorem dJ0_init_2_17 : decode cJ0_init_2 17 = .ok (.getstatic 20, 3) := by decide +kernel
theorem dJ0_init_2_20 : decode cJ0_init_2 20 = .ok (.putfield 24, 3) := by decide +kernel
theorem dJ0_init_2_23 : decode cJ0_init_2 23 = .ok (.aload_n 0, 1) := by decide +kernel
theorem dJ0_init_2_24 : decode cJ0_init_2 24 = .ok (.invokevirtual 27, 3) := by decide +kernel
theorem dJ0_init_2_27 : decode cJ0_init_2 27 = .ok (.pop, 1) := by decide +kernel
theorem dJ0_init_2_28 : decode cJ0_init_2 28 = .ok (.return_, 1) := by decide +kernel
abbrev cJ0_init_3 : ByteArray := prog_16_method_5_code
def yJ0_init_3 : MethodName := ⟨RJ0, "<init>", "(Ljava/lang/String;Ljava/lang/Throwable;ZZ)V"⟩
theorem dJ0_init_3_0 : decode cJ0_init_3 0 = .ok (.aload_n 0, 1) := by decide +kernel
theorem dJ0_init_3_1 : decode cJ0_init_3 1 = .ok (.invokespecial 1, 3) := by decide +kernel
theorem dJ0_init_3_4 : decode cJ0_init_3 4 = .ok (.aload_n 0, 1) := by decide +kernel
theorem dJ0_init_3_5 : decode cJ0_init_3 5 = .ok (.aload_n 0, 1) := by decide +kernel
theorem dJ0_init_3_6 : decode cJ0_init_3 6 = .ok (.putfield 7, 3) := by decide +kernel
theorem dJ0_init_3_9 : decode cJ0_init_3 9 = .ok (.aload_n 0, 1) := by decide +kernel
theorem dJ0_init_3_10 : decode cJ0_init_3 10 = .ok (.getstatic 13, 3) := by decide +kernel
theorem dJ0_init_3_13 : decode cJ0_init_3 13 = .ok (.putfield 17, 3) := by decide +kernel
theorem dJ0_init_3_16 : decode cJ0_init_3 16 = .ok (.aload_n 0, 1) := by decide +kernel
theorem dJ0_init_3_17 : decode cJ0_init_3 17 = .ok (.getstatic 20, 3) := by decide +kernel
theorem dJ0_init_3_20 : decode cJ0_init_3 20 = .ok (.putfield 24, 3) := by decide +kernel
theorem dJ0_init_3_23 : decode cJ0_init_3 23 = .ok (.iload 4, 2) := by decide +kernel
theorem dJ0_init_3_25 : decode cJ0_init_3 25 = .ok (.ifCond .eq 11, 3) := by decide +kernel
theorem dJ0_init_3_28 : decode cJ0_init_3 28 = .ok (.aload_n 0, 1) := by decide +kernel
theorem dJ0_init_3_29 : decode cJ0_init_3 29 = .ok (.invokevirtual 27, 3) := by decide +kernel
theorem dJ0_init_3_32 : decode cJ0_init_3 32 = .ok (.pop, 1) := by decide +kernel
theorem dJ0_init_3_33 : decode cJ0_init_3 33 = .ok (.goto 8, 3) := by decide +kernel
theorem dJ0_init_3_36 : decode cJ0_init_3 36 = .ok (.aload_n 0, 1) := by decide +kernel
theorem dJ0_init_3_37 : decode cJ0_init_3 37 = .ok (.aconst_null, 1) := by decide +kernel
theorem dJ0_init_3_38 : decode cJ0_init_3 38 = .ok (.putfield 17, 3) := by decide +kernel
theorem dJ0_init_3_41 : decode cJ0_init_3 41 = .ok (.aload_n 0, 1) := by decide +kernel
theorem dJ0_init_3_42 : decode cJ0_init_3 42 = .ok (.aload_n 1, 1) := by decide +kernel
theorem dJ0_init_3_43 : decode cJ0_init_3 43 = .ok (.putfield 31, 3) := by decide +kernel
theorem dJ0_init_3_46 : decode cJ0_init_3 46 = .ok (.aload_n 0, 1) := by decide +kernel
theorem dJ0_init_3_47 : decode cJ0_init_3 47 = .ok (.aload_n 2, 1) := by decide +kernel
theorem dJ0_init_3_48 : decode cJ0_init_3 48 = .ok (.putfield 7, 3) := by decide +kernel
theorem dJ0_init_3_51 : decode cJ0_init_3 51 = .ok (.iload_n 3, 1) := by decide +kernel
theorem dJ0_init_3_52 : decode cJ0_init_3 52 = .ok (.ifCond .ne 8, 3) := by decide +kernel
theorem dJ0_init_3_55 : decode cJ0_init_3 55 = .ok (.aload_n 0, 1) := by decide +kernel
theorem dJ0_init_3_56 : decode cJ0_init_3 56 = .ok (.aconst_null, 1) := by decide +kernel
theorem dJ0_init_3_57 : decode cJ0_init_3 57 = .ok (.putfield 24, 3) := by decide +kernel
theorem dJ0_init_3_60 : decode cJ0_init_3 60 = .ok (.return_, 1) := by decide +kernel
theorem q30 : (Jvm.Cond.initialized "java/lang/Throwable") ∈ lw_all := lw_g (lw_at lw_m1 5 rfl) rfl
theorem q169 : (Jvm.Cond.instanceMethod ({ cls := "java/lang/Throwable", name := "<init>", desc := "(Ljava/lang/String;)V" } : Jvm.MethodName)) ∈ lw_all := lw_g (lw_at lw_m1 144 rfl) rfl
theorem q170 : (Jvm.Cond.code ({ cls := "java/lang/Throwable", name := "<init>", desc := "(Ljava/lang/String;)V" } : Jvm.MethodName) prog_16_method_2_code (2 : Nat) (Option.none : Option Jvm.ClassFile.FieldType)) ∈ lw_all := lw_g (lw_at lw_m1 145 rfl) rfl
theorem q171 : (Jvm.Cond.methodLink "java/lang/Throwable" (1 : Nat) ({ cls := "java/lang/Object", name := "<init>", desc := "()V" } : Jvm.MethodName)) ∈ lw_all := lw_g (lw_at lw_m1 146 rfl) rfl
theorem q172 : (Jvm.Cond.fieldLink "java/lang/Throwable" (13 : Nat) "java/lang/Throwable" "UNASSIGNED_STACK" "[Ljava/lang/StackTraceElement;") ∈ lw_all := lw_g (lw_at lw_m1 147 rfl) rfl
theorem q173 : (Jvm.Cond.laysStatic "java/lang/Throwable" "UNASSIGNED_STACK" "[Ljava/lang/StackTraceElement;") ∈ lw_tbl := lw_at lw_m1 148 rfl
theorem q174 : (Jvm.Cond.fieldLink "java/lang/Throwable" (20 : Nat) "java/lang/Throwable" "SUPPRESSED_SENTINEL" "Ljava/util/List;") ∈ lw_all := lw_g (lw_at lw_m1 149 rfl) rfl
theorem q175 : (Jvm.Cond.laysStatic "java/lang/Throwable" "SUPPRESSED_SENTINEL" "Ljava/util/List;") ∈ lw_tbl := lw_at lw_m1 150 rfl
theorem q176 : (Jvm.Cond.methodLink "java/lang/Throwable" (27 : Nat) ({ cls := "java/lang/Throwable", name := "fillInStackTrace", desc := "()Ljava/lang/Throwable;" } : Jvm.MethodName)) ∈ lw_all := lw_g (lw_at lw_m1 151 rfl) rfl
theorem q177 : (Jvm.Cond.instanceMethod ({ cls := "java/lang/Throwable", name := "fillInStackTrace", desc := "()Ljava/lang/Throwable;" } : Jvm.MethodName)) ∈ lw_all := lw_g (lw_at lw_m1 152 rfl) rfl
theorem q178 : (Jvm.Cond.sameMethod "java/lang/Throwable" "java/lang/Throwable" "fillInStackTrace" "()Ljava/lang/Throwable;") ∈ lw_all := lw_g (lw_at lw_m1 153 rfl) rfl
theorem q194 : (Jvm.Cond.declares ({ cls := "java/lang/Throwable", name := "fillInStackTrace", desc := "()Ljava/lang/Throwable;" } : Jvm.MethodName)) ∈ lw_tbl := lw_at lw_m1 169 rfl
theorem q198 : (Jvm.Cond.codeSync ({ cls := "java/lang/Throwable", name := "fillInStackTrace", desc := "()Ljava/lang/Throwable;" } : Jvm.MethodName) prog_16_method_18_code (1 : Nat) (Option.some (Jvm.ClassFile.FieldType.object "java/lang/Throwable"))) ∈ lw_all := lw_g (lw_at lw_m1 173 rfl) rfl
theorem q199 : (Jvm.Cond.methodLink "java/lang/Throwable" (202 : Nat) ({ cls := "java/lang/Throwable", name := "fillInStackTrace", desc := "(I)Ljava/lang/Throwable;" } : Jvm.MethodName)) ∈ lw_all := lw_g (lw_at lw_m1 174 rfl) rfl
theorem q200 : (Jvm.Cond.privateMethod ({ cls := "java/lang/Throwable", name := "fillInStackTrace", desc := "(I)Ljava/lang/Throwable;" } : Jvm.MethodName)) ∈ lw_tbl := lw_at lw_m1 175 rfl
theorem q201 : (Jvm.Cond.instanceMethod ({ cls := "java/lang/Throwable", name := "fillInStackTrace", desc := "(I)Ljava/lang/Throwable;" } : Jvm.MethodName)) ∈ lw_all := lw_g (lw_at lw_m1 176 rfl) rfl
theorem q202 : (Jvm.Cond.instantiable "java/lang/Throwable" (6 : Nat)) ∈ lw_all := lw_g (lw_at lw_m1 177 rfl) rfl
theorem q203 : (Jvm.Cond.native ({ cls := "java/lang/Throwable", name := "fillInStackTrace", desc := "(I)Ljava/lang/Throwable;" } : Jvm.MethodName)) ∈ lw_all := lw_g (lw_at lw_m1 178 rfl) rfl
theorem q204 : (Jvm.Cond.fieldLink "java/lang/Throwable" (198 : Nat) "java/lang/Throwable" "backtrace" "Ljava/lang/Object;") ∈ lw_all := lw_g (lw_at lw_m1 179 rfl) rfl
theorem q205 : (Jvm.Cond.fieldLink "java/lang/Throwable" (31 : Nat) "java/lang/Throwable" "detailMessage" "Ljava/lang/String;") ∈ lw_all := lw_g (lw_at lw_m1 180 rfl) rfl
theorem q206 : (Jvm.Cond.fieldLink "java/lang/Throwable" (7 : Nat) "java/lang/Throwable" "cause" "Ljava/lang/Throwable;") ∈ lw_all := lw_g (lw_at lw_m1 181 rfl) rfl
theorem q207 : (Jvm.Cond.fieldLink "java/lang/Throwable" (17 : Nat) "java/lang/Throwable" "stackTrace" "[Ljava/lang/StackTraceElement;") ∈ lw_all := lw_g (lw_at lw_m1 182 rfl) rfl
theorem q208 : (Jvm.Cond.fieldLink "java/lang/Throwable" (24 : Nat) "java/lang/Throwable" "suppressedExceptions" "Ljava/util/List;") ∈ lw_all := lw_g (lw_at lw_m1 183 rfl) rfl
theorem q210 : (Jvm.Cond.soleField "java/lang/Throwable" "backtrace") ∈ lw_all := lw_g (lw_at lw_m1 185 rfl) rfl
theorem q212 : (Jvm.Cond.soleField "java/lang/Throwable" "detailMessage") ∈ lw_all := lw_g (lw_at lw_m1 187 rfl) rfl
theorem q214 : (Jvm.Cond.soleField "java/lang/Throwable" "cause") ∈ lw_all := lw_g (lw_at lw_m1 189 rfl) rfl
theorem q216 : (Jvm.Cond.soleField "java/lang/Throwable" "stackTrace") ∈ lw_all := lw_g (lw_at lw_m1 191 rfl) rfl
theorem q218 : (Jvm.Cond.soleField "java/lang/Throwable" "depth") ∈ lw_all := lw_g (lw_at lw_m1 193 rfl) rfl
theorem q220 : (Jvm.Cond.soleField "java/lang/Throwable" "suppressedExceptions") ∈ lw_all := lw_g (lw_at lw_m1 195 rfl) rfl
theorem q227 : (Jvm.Cond.declares ({ cls := "java/lang/Throwable", name := "<init>", desc := "()V" } : Jvm.MethodName)) ∈ lw_tbl := lw_at lw_m1 202 rfl
theorem q228 : (Jvm.Cond.declares ({ cls := "java/lang/Throwable", name := "<init>", desc := "(Ljava/lang/String;)V" } : Jvm.MethodName)) ∈ lw_tbl := lw_at lw_m1 203 rfl
theorem q230 : (Jvm.Cond.lays "java/lang/Throwable" "java/lang/Throwable" "cause" "Ljava/lang/Throwable;") ∈ lw_all := lw_g (lw_at lw_m1 205 rfl) rfl
theorem q231 : (Jvm.Cond.lays "java/lang/Throwable" "java/lang/Throwable" "stackTrace" "[Ljava/lang/StackTraceElement;") ∈ lw_all := lw_g (lw_at lw_m1 206 rfl) rfl
theorem q232 : (Jvm.Cond.lays "java/lang/Throwable" "java/lang/Throwable" "suppressedExceptions" "Ljava/util/List;") ∈ lw_all := lw_g (lw_at lw_m1 207 rfl) rfl
theorem q233 : (Jvm.Cond.lays "java/lang/Throwable" "java/lang/Throwable" "detailMessage" "Ljava/lang/String;") ∈ lw_all := lw_g (lw_at lw_m1 208 rfl) rfl
theorem q234 : (Jvm.Cond.lays "java/lang/Throwable" "java/lang/Throwable" "backtrace" "Ljava/lang/Object;") ∈ lw_all := lw_g (lw_at lw_m1 209 rfl) rfl
theorem q235 : (Jvm.Cond.fieldLink "java/lang/Throwable" (198 : Nat) "java/lang/Throwable" "backtrace" "Ljava/lang/Object;") ∈ lw_all := lw_g (lw_at lw_m1 210 rfl) rfl
theorem q236 : (Jvm.Cond.superclass "java/lang/Throwable" "java/lang/Object") ∈ lw_all := lw_g (lw_at lw_m1 211 rfl) rfl
theorem q237 : (Jvm.Cond.instanceMethod ({ cls := "java/lang/Throwable", name := "<init>", desc := "()V" } : Jvm.MethodName)) ∈ lw_all := lw_g (lw_at lw_m1 212 rfl) rfl
theorem q238 : (Jvm.Cond.code ({ cls := "java/lang/Throwable", name := "<init>", desc := "()V" } : Jvm.MethodName) prog_16_method_1_code (1 : Nat) (Option.none : Option Jvm.ClassFile.FieldType)) ∈ lw_all := lw_g (lw_at lw_m1 213 rfl) rfl
theorem q313 : (Jvm.Cond.instanceMethod ({ cls := "java/lang/Throwable", name := "<init>", desc := "(Ljava/lang/String;Ljava/lang/Throwable;ZZ)V" } : Jvm.MethodName)) ∈ lw_all := lw_g (lw_at lw_m2 48 rfl) rfl
theorem q314 : (Jvm.Cond.code ({ cls := "java/lang/Throwable", name := "<init>", desc := "(Ljava/lang/String;Ljava/lang/Throwable;ZZ)V" } : Jvm.MethodName) prog_16_method_5_code (5 : Nat) (Option.none : Option Jvm.ClassFile.FieldType)) ∈ lw_all := lw_g (lw_at lw_m2 49 rfl) rfl
theorem q380 : (Jvm.Cond.instanceMethod ({ cls := "java/lang/Throwable", name := "getCause", desc := "()Ljava/lang/Throwable;" } : Jvm.MethodName)) ∈ lw_all := lw_g (lw_at lw_m2 115 rfl) rfl
theorem q381 : (Jvm.Cond.sameMethod "java/lang/Throwable" "java/lang/Throwable" "getCause" "()Ljava/lang/Throwable;") ∈ lw_all := lw_g (lw_at lw_m2 116 rfl) rfl
theorem q388 : (Jvm.Cond.codeSync ({ cls := "java/lang/Throwable", name := "getCause", desc := "()Ljava/lang/Throwable;" } : Jvm.MethodName) prog_16_method_8_code (1 : Nat) (Option.some (Jvm.ClassFile.FieldType.object "java/lang/Throwable"))) ∈ lw_all := lw_g (lw_at lw_m2 123 rfl) rfl
theorem q568 : (Jvm.Cond.sameMethod "java/lang/Throwable" "java/lang/Throwable" "fillInStackTrace" "(I)Ljava/lang/Throwable;") ∈ lw_all := lw_g (lw_at lw_m3 63 rfl) rfl
theorem in_J0 : ∀ w ∈ wsJ00, w ∈ lw_all := lw_in wsJ00 [230, 231, 232, 233, 234] (by decide +kernel) (by decide +kernel)
/-! java/lang/Exception -/
set_option maxRecDepth 100000
def RJ1 : String := "java/lang/Exception"
abbrev cJ1_init : ByteArray := prog_11_method_2_code
def yJ1_init : MethodName := ⟨RJ1, "<init>", "(Ljava/lang/String;)V"⟩
theorem dJ1_init_0 : decode cJ1_init 0 = .ok (.aload_n 0, 1) := by decide +kernel
theorem dJ1_init_1 : decode cJ1_init 1 = .ok (.aload_n 1, 1) := by decide +kernel
theorem dJ1_init_2 : decode cJ1_init 2 = .ok (.invokespecial 7, 3) := by decide +kernel
theorem dJ1_init_5 : decode cJ1_init 5 = .ok (.return_, 1) := by decide +kernel
abbrev cJ1_init_2 : ByteArray := prog_11_method_1_code
def yJ1_init_2 : MethodName := ⟨RJ1, "<init>", "()V"⟩
theorem dJ1_init_2_0 : decode cJ1_init_2 0 = .ok (.aload_n 0, 1) := by decide +kernel
theorem dJ1_init_2_1 : decode cJ1_init_2 1 = .ok (.invokespecial 1, 3) := by decide +kernel
theorem dJ1_init_2_4 : decode cJ1_init_2 4 = .ok (.return_, 1) := by decide +kernel
abbrev cJ1_init_3 : ByteArray := prog_11_method_5_code
def yJ1_init_3 : MethodName := ⟨RJ1, "<init>", "(Ljava/lang/String;Ljava/lang/Throwable;ZZ)V"⟩
theorem dJ1_init_3_0 : decode cJ1_init_3 0 = .ok (.aload_n 0, 1) := by decide +kernel
theorem dJ1_init_3_1 : decode cJ1_init_3 1 = .ok (.aload_n 1, 1) := by decide +kernel
theorem dJ1_init_3_2 : decode cJ1_init_3 2 = .ok (.aload_n 2, 1) := by decide +kernel
theorem dJ1_init_3_3 : decode cJ1_init_3 3 = .ok (.iload_n 3, 1) := by decide +kernel
theorem dJ1_init_3_4 : decode cJ1_init_3 4 = .ok (.iload 4, 2) := by decide +kernel
theorem dJ1_init_3_6 : decode cJ1_init_3 6 = .ok (.invokespecial 16, 3) := by decide +kernel
theorem dJ1_init_3_9 : decode cJ1_init_3 9 = .ok (.return_, 1) := by decide +kernel
theorem q31 : (Jvm.Cond.initialized "java/lang/Exception") ∈ lw_all := lw_g (lw_at lw_m1 6 rfl) rfl
theorem q166 : (Jvm.Cond.instanceMethod ({ cls := "java/lang/Exception", name := "<init>", desc := "(Ljava/lang/String;)V" } : Jvm.MethodName)) ∈ lw_all := lw_g (lw_at lw_m1 141 rfl) rfl
theorem q167 : (Jvm.Cond.code ({ cls := "java/lang/Exception", name := "<init>", desc := "(Ljava/lang/String;)V" } : Jvm.MethodName) prog_11_method_2_code (2 : Nat) (Option.none : Option Jvm.ClassFile.FieldType)) ∈ lw_all := lw_g (lw_at lw_m1 142 rfl) rfl
theorem q168 : (Jvm.Cond.methodLink "java/lang/Exception" (7 : Nat) ({ cls := "java/lang/Throwable", name := "<init>", desc := "(Ljava/lang/String;)V" } : Jvm.MethodName)) ∈ lw_all := lw_g (lw_at lw_m1 143 rfl) rfl
theorem q197 : (Jvm.Cond.superclass "java/lang/Exception" "java/lang/Throwable") ∈ lw_all := lw_g (lw_at lw_m1 172 rfl) rfl
theorem q225 : (Jvm.Cond.declares ({ cls := "java/lang/Exception", name := "<init>", desc := "()V" } : Jvm.MethodName)) ∈ lw_tbl := lw_at lw_m1 200 rfl
theorem q226 : (Jvm.Cond.declares ({ cls := "java/lang/Exception", name := "<init>", desc := "(Ljava/lang/String;)V" } : Jvm.MethodName)) ∈ lw_tbl := lw_at lw_m1 201 rfl
theorem q252 : (Jvm.Cond.instanceMethod ({ cls := "java/lang/Exception", name := "<init>", desc := "()V" } : Jvm.MethodName)) ∈ lw_all := lw_g (lw_at lw_m1 227 rfl) rfl
theorem q253 : (Jvm.Cond.code ({ cls := "java/lang/Exception", name := "<init>", desc := "()V" } : Jvm.MethodName) prog_11_method_1_code (1 : Nat) (Option.none : Option Jvm.ClassFile.FieldType)) ∈ lw_all := lw_g (lw_at lw_m1 228 rfl) rfl
theorem q254 : (Jvm.Cond.methodLink "java/lang/Exception" (1 : Nat) ({ cls := "java/lang/Throwable", name := "<init>", desc := "()V" } : Jvm.MethodName)) ∈ lw_all := lw_g (lw_at lw_m1 229 rfl) rfl
theorem q310 : (Jvm.Cond.instanceMethod ({ cls := "java/lang/Exception", name := "<init>", desc := "(Ljava/lang/String;Ljava/lang/Throwable;ZZ)V" } : Jvm.MethodName)) ∈ lw_all := lw_g (lw_at lw_m2 45 rfl) rfl
theorem q311 : (Jvm.Cond.code ({ cls := "java/lang/Exception", name := "<init>", desc := "(Ljava/lang/String;Ljava/lang/Throwable;ZZ)V" } : Jvm.MethodName) prog_11_method_5_code (5 : Nat) (Option.none : Option Jvm.ClassFile.FieldType)) ∈ lw_all := lw_g (lw_at lw_m2 46 rfl) rfl
theorem q312 : (Jvm.Cond.methodLink "java/lang/Exception" (16 : Nat) ({ cls := "java/lang/Throwable", name := "<init>", desc := "(Ljava/lang/String;Ljava/lang/Throwable;ZZ)V" } : Jvm.MethodName)) ∈ lw_all := lw_g (lw_at lw_m2 47 rfl) rfl
/-! java/lang/RuntimeException -/
set_option maxRecDepth 100000
def RJ2 : String := "java/lang/RuntimeException"
abbrev cJ2_init : ByteArray := prog_14_method_2_code
def yJ2_init : MethodName := ⟨RJ2, "<init>", "(Ljava/lang/String;)V"⟩
theorem dJ2_init_0 : decode cJ2_init 0 = .ok (.aload_n 0, 1) := by decide +kernel
theorem dJ2_init_1 : decode cJ2_init 1 = .ok (.aload_n 1, 1) := by decide +kernel
theorem dJ2_init_2 : decode cJ2_init 2 = .ok (.invokespecial 7, 3) := by decide +kernel
theorem dJ2_init_5 : decode cJ2_init 5 = .ok (.return_, 1) := by decide +kernel
abbrev cJ2_init_2 : ByteArray := prog_14_method_1_code
def yJ2_init_2 : MethodName := ⟨RJ2, "<init>", "()V"⟩
theorem dJ2_init_2_0 : decode cJ2_init_2 0 = .ok (.aload_n 0, 1) := by decide +kernel
theorem dJ2_init_2_1 : decode cJ2_init_2 1 = .ok (.invokespecial 1, 3) := by decide +kernel
theorem dJ2_init_2_4 : decode cJ2_init_2 4 = .ok (.return_, 1) := by decide +kernel
theorem q32 : (Jvm.Cond.initialized "java/lang/RuntimeException") ∈ lw_all := lw_g (lw_at lw_m1 7 rfl) rfl
theorem q163 : (Jvm.Cond.instanceMethod ({ cls := "java/lang/RuntimeException", name := "<init>", desc := "(Ljava/lang/String;)V" } : Jvm.MethodName)) ∈ lw_all := lw_g (lw_at lw_m1 138 rfl) rfl
theorem q164 : (Jvm.Cond.code ({ cls := "java/lang/RuntimeException", name := "<init>", desc := "(Ljava/lang/String;)V" } : Jvm.MethodName) prog_14_method_2_code (2 : Nat) (Option.none : Option Jvm.ClassFile.FieldType)) ∈ lw_all := lw_g (lw_at lw_m1 139 rfl) rfl
theorem q165 : (Jvm.Cond.methodLink "java/lang/RuntimeException" (7 : Nat) ({ cls := "java/lang/Exception", name := "<init>", desc := "(Ljava/lang/String;)V" } : Jvm.MethodName)) ∈ lw_all := lw_g (lw_at lw_m1 140 rfl) rfl
theorem q193 : (Jvm.Cond.sameMethod "java/lang/RuntimeException" "java/lang/Throwable" "fillInStackTrace" "()Ljava/lang/Throwable;") ∈ lw_all := lw_g (lw_at lw_m1 168 rfl) rfl
theorem q196 : (Jvm.Cond.superclass "java/lang/RuntimeException" "java/lang/Exception") ∈ lw_all := lw_g (lw_at lw_m1 171 rfl) rfl
theorem q223 : (Jvm.Cond.declares ({ cls := "java/lang/RuntimeException", name := "<init>", desc := "()V" } : Jvm.MethodName)) ∈ lw_tbl := lw_at lw_m1 198 rfl
theorem q224 : (Jvm.Cond.declares ({ cls := "java/lang/RuntimeException", name := "<init>", desc := "(Ljava/lang/String;)V" } : Jvm.MethodName)) ∈ lw_tbl := lw_at lw_m1 199 rfl
theorem q249 : (Jvm.Cond.instanceMethod ({ cls := "java/lang/RuntimeException", name := "<init>", desc := "()V" } : Jvm.MethodName)) ∈ lw_all := lw_g (lw_at lw_m1 224 rfl) rfl
theorem q250 : (Jvm.Cond.code ({ cls := "java/lang/RuntimeException", name := "<init>", desc := "()V" } : Jvm.MethodName) prog_14_method_1_code (1 : Nat) (Option.none : Option Jvm.ClassFile.FieldType)) ∈ lw_all := lw_g (lw_at lw_m1 225 rfl) rfl
theorem q251 : (Jvm.Cond.methodLink "java/lang/RuntimeException" (1 : Nat) ({ cls := "java/lang/Exception", name := "<init>", desc := "()V" } : Jvm.MethodName)) ∈ lw_all := lw_g (lw_at lw_m1 226 rfl) rfl
theorem q269 : (Jvm.Cond.castable "java/lang/RuntimeException" "java/lang/Throwable") ∈ lw_tbl := lw_at lw_m2 4 rfl
/-! java/lang/ArithmeticException -/
set_option maxRecDepth 100000
def RJ3 : String := "java/lang/ArithmeticException"
def TJ3 : u_T := fun k => match k with
  | 0 => ("java/lang/Throwable", "backtrace", "Ljava/lang/Object;", false)
  | 1 => ("java/lang/Throwable", "detailMessage", "Ljava/lang/String;", false)
  | 2 => ("java/lang/Throwable", "cause", "Ljava/lang/Throwable;", false)
  | 3 => ("java/lang/Throwable", "stackTrace", "[Ljava/lang/StackTraceElement;", false)
  | 4 => ("java/lang/Throwable", "depth", "I", false)
  | _ => ("java/lang/Throwable", "suppressedExceptions", "Ljava/util/List;", false)
def tyJ3 : Nat → FieldType := fun k => match k with
  | 0 => .object "java/lang/Object"
  | 1 => .object "java/lang/String"
  | 2 => .object "java/lang/Throwable"
  | 3 => .array (.object "java/lang/StackTraceElement")
  | 4 => .int
  | _ => .object "java/util/List"
abbrev wsJ30 : List Cond := u_ws RJ3 TJ3 6
theorem nmJ3 : ∀ a, a < 6 → ∀ b, b < 6 → a ≠ b → (TJ3 a).2.1 ≠ (TJ3 b).2.1 := by decide +kernel
theorem tyJ3_ok : ∀ k, k < 6 → parseFieldDescriptor (TJ3 k).2.2.1 = some (tyJ3 k) := by decide +kernel
abbrev cJ3_init : ByteArray := prog_9_method_2_code
def yJ3_init : MethodName := ⟨RJ3, "<init>", "(Ljava/lang/String;)V"⟩
theorem dJ3_init_0 : decode cJ3_init 0 = .ok (.aload_n 0, 1) := by decide +kernel
theorem dJ3_init_1 : decode cJ3_init 1 = .ok (.aload_n 1, 1) := by decide +kernel
theorem dJ3_init_2 : decode cJ3_init 2 = .ok (.invokespecial 7, 3) := by decide +kernel
theorem dJ3_init_5 : decode cJ3_init 5 = .ok (.return_, 1) := by decide +kernel
theorem q33 : (Jvm.Cond.initialized "java/lang/ArithmeticException") ∈ lw_all := lw_g (lw_at lw_m1 8 rfl) rfl
theorem q159 : (Jvm.Cond.instantiable "java/lang/ArithmeticException" (6 : Nat)) ∈ lw_all := lw_g (lw_at lw_m1 134 rfl) rfl
theorem q160 : (Jvm.Cond.instanceMethod ({ cls := "java/lang/ArithmeticException", name := "<init>", desc := "(Ljava/lang/String;)V" } : Jvm.MethodName)) ∈ lw_all := lw_g (lw_at lw_m1 135 rfl) rfl
theorem q161 : (Jvm.Cond.code ({ cls := "java/lang/ArithmeticException", name := "<init>", desc := "(Ljava/lang/String;)V" } : Jvm.MethodName) prog_9_method_2_code (2 : Nat) (Option.none : Option Jvm.ClassFile.FieldType)) ∈ lw_all := lw_g (lw_at lw_m1 136 rfl) rfl
theorem q162 : (Jvm.Cond.methodLink "java/lang/ArithmeticException" (7 : Nat) ({ cls := "java/lang/RuntimeException", name := "<init>", desc := "(Ljava/lang/String;)V" } : Jvm.MethodName)) ∈ lw_all := lw_g (lw_at lw_m1 137 rfl) rfl
theorem q182 : (Jvm.Cond.selects "java/lang/ArithmeticException" ({ cls := "java/lang/Throwable", name := "fillInStackTrace", desc := "()Ljava/lang/Throwable;" } : Jvm.MethodName) ({ cls := "java/lang/Throwable", name := "fillInStackTrace", desc := "()Ljava/lang/Throwable;" } : Jvm.MethodName)) ∈ lw_all := lw_g (lw_at lw_m1 157 rfl) rfl
theorem q209 : (Jvm.Cond.lays "java/lang/ArithmeticException" "java/lang/Throwable" "backtrace" "Ljava/lang/Object;") ∈ lw_all := lw_g (lw_at lw_m1 184 rfl) rfl
theorem q211 : (Jvm.Cond.lays "java/lang/ArithmeticException" "java/lang/Throwable" "detailMessage" "Ljava/lang/String;") ∈ lw_all := lw_g (lw_at lw_m1 186 rfl) rfl
theorem q213 : (Jvm.Cond.lays "java/lang/ArithmeticException" "java/lang/Throwable" "cause" "Ljava/lang/Throwable;") ∈ lw_all := lw_g (lw_at lw_m1 188 rfl) rfl
theorem q215 : (Jvm.Cond.lays "java/lang/ArithmeticException" "java/lang/Throwable" "stackTrace" "[Ljava/lang/StackTraceElement;") ∈ lw_all := lw_g (lw_at lw_m1 190 rfl) rfl
theorem q217 : (Jvm.Cond.lays "java/lang/ArithmeticException" "java/lang/Throwable" "depth" "I") ∈ lw_all := lw_g (lw_at lw_m1 192 rfl) rfl
theorem q219 : (Jvm.Cond.lays "java/lang/ArithmeticException" "java/lang/Throwable" "suppressedExceptions" "Ljava/util/List;") ∈ lw_all := lw_g (lw_at lw_m1 194 rfl) rfl
theorem q221 : (Jvm.Cond.superclass "java/lang/ArithmeticException" "java/lang/RuntimeException") ∈ lw_all := lw_g (lw_at lw_m1 196 rfl) rfl
theorem q222 : (Jvm.Cond.castable "java/lang/ArithmeticException" "java/lang/ArithmeticException") ∈ lw_tbl := lw_at lw_m1 197 rfl
theorem q229 : (Jvm.Cond.selects "java/lang/ArithmeticException" ({ cls := "java/lang/Throwable", name := "fillInStackTrace", desc := "(I)Ljava/lang/Throwable;" } : Jvm.MethodName) ({ cls := "java/lang/Throwable", name := "fillInStackTrace", desc := "(I)Ljava/lang/Throwable;" } : Jvm.MethodName)) ∈ lw_all := lw_g (lw_at lw_m1 204 rfl) rfl
theorem q385 : (Jvm.Cond.selects "java/lang/ArithmeticException" ({ cls := "java/lang/Throwable", name := "getCause", desc := "()Ljava/lang/Throwable;" } : Jvm.MethodName) ({ cls := "java/lang/Throwable", name := "getCause", desc := "()Ljava/lang/Throwable;" } : Jvm.MethodName)) ∈ lw_all := lw_g (lw_at lw_m2 120 rfl) rfl
theorem in_J3 : ∀ w ∈ wsJ30, w ∈ lw_all := lw_in wsJ30 [209, 211, 213, 215, 217, 219] (by decide +kernel) (by decide +kernel)
/-! java/lang/String -/
set_option maxRecDepth 100000
def RJ4 : String := "java/lang/String"
def TJ4 : u_T := fun k => match k with
  | 0 => ("java/lang/String", "value", "[B", true)
  | _ => ("java/lang/String", "coder", "B", true)
def tyJ4 : Nat → FieldType := fun k => match k with
  | 0 => .array .byte
  | _ => .byte
abbrev wsJ40 : List Cond := u_ws RJ4 TJ4 2
theorem nmJ4 : ∀ a, a < 2 → ∀ b, b < 2 → a ≠ b → (TJ4 a).2.1 ≠ (TJ4 b).2.1 := by decide +kernel
theorem tyJ4_ok : ∀ k, k < 2 → parseFieldDescriptor (TJ4 k).2.2.1 = some (tyJ4 k) := by decide +kernel
theorem q34 : (Jvm.Cond.initialized "java/lang/String") ∈ lw_all := lw_g (lw_at lw_m1 9 rfl) rfl
theorem q239 : (Jvm.Cond.instantiable "java/lang/String" (4 : Nat)) ∈ lw_all := lw_g (lw_at lw_m1 214 rfl) rfl
theorem q241 : (Jvm.Cond.laysFinal "java/lang/String" "java/lang/String" "value" "[B") ∈ lw_all := lw_g (lw_at lw_m1 216 rfl) rfl
theorem q242 : (Jvm.Cond.soleField "java/lang/String" "value") ∈ lw_all := lw_g (lw_at lw_m1 217 rfl) rfl
theorem q243 : (Jvm.Cond.laysFinal "java/lang/String" "java/lang/String" "coder" "B") ∈ lw_all := lw_g (lw_at lw_m1 218 rfl) rfl
theorem q244 : (Jvm.Cond.soleField "java/lang/String" "coder") ∈ lw_all := lw_g (lw_at lw_m1 219 rfl) rfl
theorem in_J4 : ∀ w ∈ wsJ40, w ∈ lw_all := lw_in wsJ40 [241, 243] (by decide +kernel) (by decide +kernel)
/-! java/lang/NullPointerException -/
set_option maxRecDepth 100000
def RJ5 : String := "java/lang/NullPointerException"
def TJ5 : u_T := fun k => match k with
  | 0 => ("java/lang/Throwable", "backtrace", "Ljava/lang/Object;", false)
  | 1 => ("java/lang/Throwable", "detailMessage", "Ljava/lang/String;", false)
  | 2 => ("java/lang/Throwable", "cause", "Ljava/lang/Throwable;", false)
  | 3 => ("java/lang/Throwable", "stackTrace", "[Ljava/lang/StackTraceElement;", false)
  | 4 => ("java/lang/Throwable", "depth", "I", false)
  | 5 => ("java/lang/Throwable", "suppressedExceptions", "Ljava/util/List;", false)
  | 6 => ("java/lang/NullPointerException", "extendedMessageState", "I", false)
  | _ => ("java/lang/NullPointerException", "extendedMessage", "Ljava/lang/String;", false)
def tyJ5 : Nat → FieldType := fun k => match k with
  | 0 => .object "java/lang/Object"
  | 1 => .object "java/lang/String"
  | 2 => .object "java/lang/Throwable"
  | 3 => .array (.object "java/lang/StackTraceElement")
  | 4 => .int
  | 5 => .object "java/util/List"
  | 6 => .int
  | _ => .object "java/lang/String"
abbrev wsJ50 : List Cond := u_ws RJ5 TJ5 8
theorem nmJ5 : ∀ a, a < 8 → ∀ b, b < 8 → a ≠ b → (TJ5 a).2.1 ≠ (TJ5 b).2.1 := by decide +kernel
theorem tyJ5_ok : ∀ k, k < 8 → parseFieldDescriptor (TJ5 k).2.2.1 = some (tyJ5 k) := by decide +kernel
abbrev cJ5_init : ByteArray := prog_13_method_1_code
def yJ5_init : MethodName := ⟨RJ5, "<init>", "()V"⟩
theorem dJ5_init_0 : decode cJ5_init 0 = .ok (.aload_n 0, 1) := by decide +kernel
theorem dJ5_init_1 : decode cJ5_init 1 = .ok (.invokespecial 1, 3) := by decide +kernel
theorem dJ5_init_4 : decode cJ5_init 4 = .ok (.return_, 1) := by decide +kernel
theorem q35 : (Jvm.Cond.initialized "java/lang/NullPointerException") ∈ lw_all := lw_g (lw_at lw_m1 10 rfl) rfl
theorem q184 : (Jvm.Cond.selects "java/lang/NullPointerException" ({ cls := "java/lang/Throwable", name := "fillInStackTrace", desc := "()Ljava/lang/Throwable;" } : Jvm.MethodName) ({ cls := "java/lang/NullPointerException", name := "fillInStackTrace", desc := "()Ljava/lang/Throwable;" } : Jvm.MethodName)) ∈ lw_all := lw_g (lw_at lw_m1 159 rfl) rfl
theorem q185 : (Jvm.Cond.instanceMethod ({ cls := "java/lang/NullPointerException", name := "fillInStackTrace", desc := "()Ljava/lang/Throwable;" } : Jvm.MethodName)) ∈ lw_all := lw_g (lw_at lw_m1 160 rfl) rfl
theorem q186 : (Jvm.Cond.codeSync ({ cls := "java/lang/NullPointerException", name := "fillInStackTrace", desc := "()Ljava/lang/Throwable;" } : Jvm.MethodName) prog_13_method_3_code (1 : Nat) (Option.some (Jvm.ClassFile.FieldType.object "java/lang/Throwable"))) ∈ lw_all := lw_g (lw_at lw_m1 161 rfl) rfl
theorem q187 : (Jvm.Cond.methodLink "java/lang/NullPointerException" (16 : Nat) ({ cls := "java/lang/NullPointerException", name := "getExtendedNPEMessage", desc := "()Ljava/lang/String;" } : Jvm.MethodName)) ∈ lw_all := lw_g (lw_at lw_m1 162 rfl) rfl
theorem q188 : (Jvm.Cond.privateMethod ({ cls := "java/lang/NullPointerException", name := "getExtendedNPEMessage", desc := "()Ljava/lang/String;" } : Jvm.MethodName)) ∈ lw_tbl := lw_at lw_m1 163 rfl
theorem q189 : (Jvm.Cond.instanceMethod ({ cls := "java/lang/NullPointerException", name := "getExtendedNPEMessage", desc := "()Ljava/lang/String;" } : Jvm.MethodName)) ∈ lw_all := lw_g (lw_at lw_m1 164 rfl) rfl
theorem q190 : (Jvm.Cond.instantiable "java/lang/NullPointerException" (8 : Nat)) ∈ lw_all := lw_g (lw_at lw_m1 165 rfl) rfl
theorem q191 : (Jvm.Cond.native ({ cls := "java/lang/NullPointerException", name := "getExtendedNPEMessage", desc := "()Ljava/lang/String;" } : Jvm.MethodName)) ∈ lw_all := lw_g (lw_at lw_m1 166 rfl) rfl
theorem q192 : (Jvm.Cond.methodLink "java/lang/NullPointerException" (24 : Nat) ({ cls := "java/lang/RuntimeException", name := "fillInStackTrace", desc := "()Ljava/lang/Throwable;" } : Jvm.MethodName)) ∈ lw_all := lw_g (lw_at lw_m1 167 rfl) rfl
theorem q195 : (Jvm.Cond.superclass "java/lang/NullPointerException" "java/lang/RuntimeException") ∈ lw_all := lw_g (lw_at lw_m1 170 rfl) rfl
theorem q246 : (Jvm.Cond.instanceMethod ({ cls := "java/lang/NullPointerException", name := "<init>", desc := "()V" } : Jvm.MethodName)) ∈ lw_all := lw_g (lw_at lw_m1 221 rfl) rfl
theorem q247 : (Jvm.Cond.code ({ cls := "java/lang/NullPointerException", name := "<init>", desc := "()V" } : Jvm.MethodName) prog_13_method_1_code (1 : Nat) (Option.none : Option Jvm.ClassFile.FieldType)) ∈ lw_all := lw_g (lw_at lw_m1 222 rfl) rfl
theorem q248 : (Jvm.Cond.methodLink "java/lang/NullPointerException" (1 : Nat) ({ cls := "java/lang/RuntimeException", name := "<init>", desc := "()V" } : Jvm.MethodName)) ∈ lw_all := lw_g (lw_at lw_m1 223 rfl) rfl
theorem q255 : (Jvm.Cond.fieldLink "java/lang/NullPointerException" (10 : Nat) "java/lang/NullPointerException" "extendedMessageState" "I") ∈ lw_all := lw_g (lw_at lw_m1 230 rfl) rfl
theorem q256 : (Jvm.Cond.fieldLink "java/lang/NullPointerException" (20 : Nat) "java/lang/NullPointerException" "extendedMessage" "Ljava/lang/String;") ∈ lw_all := lw_g (lw_at lw_m1 231 rfl) rfl
theorem q257 : (Jvm.Cond.lays "java/lang/NullPointerException" "java/lang/NullPointerException" "extendedMessageState" "I") ∈ lw_all := lw_g (lw_at lw_m1 232 rfl) rfl
theorem q258 : (Jvm.Cond.soleField "java/lang/NullPointerException" "extendedMessageState") ∈ lw_all := lw_g (lw_at lw_m1 233 rfl) rfl
theorem q259 : (Jvm.Cond.lays "java/lang/NullPointerException" "java/lang/NullPointerException" "extendedMessage" "Ljava/lang/String;") ∈ lw_all := lw_g (lw_at lw_m1 234 rfl) rfl
theorem q260 : (Jvm.Cond.soleField "java/lang/NullPointerException" "extendedMessage") ∈ lw_all := lw_g (lw_at lw_m1 235 rfl) rfl
theorem q261 : (Jvm.Cond.lays "java/lang/NullPointerException" "java/lang/Throwable" "backtrace" "Ljava/lang/Object;") ∈ lw_all := lw_g (lw_at lw_m1 236 rfl) rfl
theorem q262 : (Jvm.Cond.lays "java/lang/NullPointerException" "java/lang/Throwable" "detailMessage" "Ljava/lang/String;") ∈ lw_all := lw_g (lw_at lw_m1 237 rfl) rfl
theorem q263 : (Jvm.Cond.lays "java/lang/NullPointerException" "java/lang/Throwable" "cause" "Ljava/lang/Throwable;") ∈ lw_all := lw_g (lw_at lw_m1 238 rfl) rfl
theorem q264 : (Jvm.Cond.lays "java/lang/NullPointerException" "java/lang/Throwable" "stackTrace" "[Ljava/lang/StackTraceElement;") ∈ lw_all := lw_g (lw_at lw_m1 239 rfl) rfl
theorem q265 : (Jvm.Cond.lays "java/lang/NullPointerException" "java/lang/Throwable" "depth" "I") ∈ lw_all := lw_g (lw_at lw_m2 0 rfl) rfl
theorem q266 : (Jvm.Cond.lays "java/lang/NullPointerException" "java/lang/Throwable" "suppressedExceptions" "Ljava/util/List;") ∈ lw_all := lw_g (lw_at lw_m2 1 rfl) rfl
theorem q267 : (Jvm.Cond.castable "java/lang/NullPointerException" "java/lang/NullPointerException") ∈ lw_tbl := lw_at lw_m2 2 rfl
theorem q268 : (Jvm.Cond.selects "java/lang/NullPointerException" ({ cls := "java/lang/Throwable", name := "fillInStackTrace", desc := "(I)Ljava/lang/Throwable;" } : Jvm.MethodName) ({ cls := "java/lang/Throwable", name := "fillInStackTrace", desc := "(I)Ljava/lang/Throwable;" } : Jvm.MethodName)) ∈ lw_all := lw_g (lw_at lw_m2 3 rfl) rfl
theorem q387 : (Jvm.Cond.selects "java/lang/NullPointerException" ({ cls := "java/lang/Throwable", name := "getCause", desc := "()Ljava/lang/Throwable;" } : Jvm.MethodName) ({ cls := "java/lang/Throwable", name := "getCause", desc := "()Ljava/lang/Throwable;" } : Jvm.MethodName)) ∈ lw_all := lw_g (lw_at lw_m2 122 rfl) rfl
theorem in_J5 : ∀ w ∈ wsJ50, w ∈ lw_all := lw_in wsJ50 [261, 262, 263, 264, 265, 266, 257, 259] (by decide +kernel) (by decide +kernel)
/-! java/lang/IndexOutOfBoundsException -/
set_option maxRecDepth 100000
def RJ6 : String := "java/lang/IndexOutOfBoundsException"
abbrev cJ6_init : ByteArray := prog_12_method_2_code
def yJ6_init : MethodName := ⟨RJ6, "<init>", "(Ljava/lang/String;)V"⟩
theorem dJ6_init_0 : decode cJ6_init 0 = .ok (.aload_n 0, 1) := by decide +kernel
theorem dJ6_init_1 : decode cJ6_init 1 = .ok (.aload_n 1, 1) := by decide +kernel
theorem dJ6_init_2 : decode cJ6_init 2 = .ok (.invokespecial 7, 3) := by decide +kernel
theorem dJ6_init_5 : decode cJ6_init 5 = .ok (.return_, 1) := by decide +kernel
theorem q36 : (Jvm.Cond.initialized "java/lang/IndexOutOfBoundsException") ∈ lw_all := lw_g (lw_at lw_m1 11 rfl) rfl
theorem q275 : (Jvm.Cond.instanceMethod ({ cls := "java/lang/IndexOutOfBoundsException", name := "<init>", desc := "(Ljava/lang/String;)V" } : Jvm.MethodName)) ∈ lw_all := lw_g (lw_at lw_m2 10 rfl) rfl
theorem q276 : (Jvm.Cond.code ({ cls := "java/lang/IndexOutOfBoundsException", name := "<init>", desc := "(Ljava/lang/String;)V" } : Jvm.MethodName) prog_12_method_2_code (2 : Nat) (Option.none : Option Jvm.ClassFile.FieldType)) ∈ lw_all := lw_g (lw_at lw_m2 11 rfl) rfl
theorem q277 : (Jvm.Cond.methodLink "java/lang/IndexOutOfBoundsException" (7 : Nat) ({ cls := "java/lang/RuntimeException", name := "<init>", desc := "(Ljava/lang/String;)V" } : Jvm.MethodName)) ∈ lw_all := lw_g (lw_at lw_m2 12 rfl) rfl
theorem q286 : (Jvm.Cond.declares ({ cls := "java/lang/IndexOutOfBoundsException", name := "<init>", desc := "()V" } : Jvm.MethodName)) ∈ lw_tbl := lw_at lw_m2 21 rfl
theorem q287 : (Jvm.Cond.declares ({ cls := "java/lang/IndexOutOfBoundsException", name := "<init>", desc := "(Ljava/lang/String;)V" } : Jvm.MethodName)) ∈ lw_tbl := lw_at lw_m2 22 rfl
/-! java/lang/ArrayIndexOutOfBoundsException -/
set_option maxRecDepth 100000
def RJ7 : String := "java/lang/ArrayIndexOutOfBoundsException"
def TJ7 : u_T := fun k => match k with
  | 0 => ("java/lang/Throwable", "backtrace", "Ljava/lang/Object;", false)
  | 1 => ("java/lang/Throwable", "detailMessage", "Ljava/lang/String;", false)
  | 2 => ("java/lang/Throwable", "cause", "Ljava/lang/Throwable;", false)
  | 3 => ("java/lang/Throwable", "stackTrace", "[Ljava/lang/StackTraceElement;", false)
  | 4 => ("java/lang/Throwable", "depth", "I", false)
  | _ => ("java/lang/Throwable", "suppressedExceptions", "Ljava/util/List;", false)
def tyJ7 : Nat → FieldType := fun k => match k with
  | 0 => .object "java/lang/Object"
  | 1 => .object "java/lang/String"
  | 2 => .object "java/lang/Throwable"
  | 3 => .array (.object "java/lang/StackTraceElement")
  | 4 => .int
  | _ => .object "java/util/List"
abbrev wsJ70 : List Cond := u_ws RJ7 TJ7 6
theorem nmJ7 : ∀ a, a < 6 → ∀ b, b < 6 → a ≠ b → (TJ7 a).2.1 ≠ (TJ7 b).2.1 := by decide +kernel
theorem tyJ7_ok : ∀ k, k < 6 → parseFieldDescriptor (TJ7 k).2.2.1 = some (tyJ7 k) := by decide +kernel
abbrev cJ7_init : ByteArray := prog_10_method_2_code
def yJ7_init : MethodName := ⟨RJ7, "<init>", "(Ljava/lang/String;)V"⟩
theorem dJ7_init_0 : decode cJ7_init 0 = .ok (.aload_n 0, 1) := by decide +kernel
theorem dJ7_init_1 : decode cJ7_init 1 = .ok (.aload_n 1, 1) := by decide +kernel
theorem dJ7_init_2 : decode cJ7_init 2 = .ok (.invokespecial 7, 3) := by decide +kernel
theorem dJ7_init_5 : decode cJ7_init 5 = .ok (.return_, 1) := by decide +kernel
theorem q37 : (Jvm.Cond.initialized "java/lang/ArrayIndexOutOfBoundsException") ∈ lw_all := lw_g (lw_at lw_m1 12 rfl) rfl
theorem q183 : (Jvm.Cond.selects "java/lang/ArrayIndexOutOfBoundsException" ({ cls := "java/lang/Throwable", name := "fillInStackTrace", desc := "()Ljava/lang/Throwable;" } : Jvm.MethodName) ({ cls := "java/lang/Throwable", name := "fillInStackTrace", desc := "()Ljava/lang/Throwable;" } : Jvm.MethodName)) ∈ lw_all := lw_g (lw_at lw_m1 158 rfl) rfl
theorem q271 : (Jvm.Cond.instantiable "java/lang/ArrayIndexOutOfBoundsException" (6 : Nat)) ∈ lw_all := lw_g (lw_at lw_m2 6 rfl) rfl
theorem q272 : (Jvm.Cond.instanceMethod ({ cls := "java/lang/ArrayIndexOutOfBoundsException", name := "<init>", desc := "(Ljava/lang/String;)V" } : Jvm.MethodName)) ∈ lw_all := lw_g (lw_at lw_m2 7 rfl) rfl
theorem q273 : (Jvm.Cond.code ({ cls := "java/lang/ArrayIndexOutOfBoundsException", name := "<init>", desc := "(Ljava/lang/String;)V" } : Jvm.MethodName) prog_10_method_2_code (2 : Nat) (Option.none : Option Jvm.ClassFile.FieldType)) ∈ lw_all := lw_g (lw_at lw_m2 8 rfl) rfl
theorem q274 : (Jvm.Cond.methodLink "java/lang/ArrayIndexOutOfBoundsException" (7 : Nat) ({ cls := "java/lang/IndexOutOfBoundsException", name := "<init>", desc := "(Ljava/lang/String;)V" } : Jvm.MethodName)) ∈ lw_all := lw_g (lw_at lw_m2 9 rfl) rfl
theorem q278 : (Jvm.Cond.lays "java/lang/ArrayIndexOutOfBoundsException" "java/lang/Throwable" "backtrace" "Ljava/lang/Object;") ∈ lw_all := lw_g (lw_at lw_m2 13 rfl) rfl
theorem q279 : (Jvm.Cond.lays "java/lang/ArrayIndexOutOfBoundsException" "java/lang/Throwable" "detailMessage" "Ljava/lang/String;") ∈ lw_all := lw_g (lw_at lw_m2 14 rfl) rfl
theorem q280 : (Jvm.Cond.lays "java/lang/ArrayIndexOutOfBoundsException" "java/lang/Throwable" "cause" "Ljava/lang/Throwable;") ∈ lw_all := lw_g (lw_at lw_m2 15 rfl) rfl
theorem q281 : (Jvm.Cond.lays "java/lang/ArrayIndexOutOfBoundsException" "java/lang/Throwable" "stackTrace" "[Ljava/lang/StackTraceElement;") ∈ lw_all := lw_g (lw_at lw_m2 16 rfl) rfl
theorem q282 : (Jvm.Cond.lays "java/lang/ArrayIndexOutOfBoundsException" "java/lang/Throwable" "depth" "I") ∈ lw_all := lw_g (lw_at lw_m2 17 rfl) rfl
theorem q283 : (Jvm.Cond.lays "java/lang/ArrayIndexOutOfBoundsException" "java/lang/Throwable" "suppressedExceptions" "Ljava/util/List;") ∈ lw_all := lw_g (lw_at lw_m2 18 rfl) rfl
theorem q284 : (Jvm.Cond.superclass "java/lang/ArrayIndexOutOfBoundsException" "java/lang/IndexOutOfBoundsException") ∈ lw_all := lw_g (lw_at lw_m2 19 rfl) rfl
theorem q285 : (Jvm.Cond.castable "java/lang/ArrayIndexOutOfBoundsException" "java/lang/ArrayIndexOutOfBoundsException") ∈ lw_tbl := lw_at lw_m2 20 rfl
theorem q288 : (Jvm.Cond.selects "java/lang/ArrayIndexOutOfBoundsException" ({ cls := "java/lang/Throwable", name := "fillInStackTrace", desc := "(I)Ljava/lang/Throwable;" } : Jvm.MethodName) ({ cls := "java/lang/Throwable", name := "fillInStackTrace", desc := "(I)Ljava/lang/Throwable;" } : Jvm.MethodName)) ∈ lw_all := lw_g (lw_at lw_m2 23 rfl) rfl
theorem q386 : (Jvm.Cond.selects "java/lang/ArrayIndexOutOfBoundsException" ({ cls := "java/lang/Throwable", name := "getCause", desc := "()Ljava/lang/Throwable;" } : Jvm.MethodName) ({ cls := "java/lang/Throwable", name := "getCause", desc := "()Ljava/lang/Throwable;" } : Jvm.MethodName)) ∈ lw_all := lw_g (lw_at lw_m2 121 rfl) rfl
theorem in_J7 : ∀ w ∈ wsJ70, w ∈ lw_all := lw_in wsJ70 [278, 279, 280, 281, 282, 283] (by decide +kernel) (by decide +kernel)
/-! java/lang/Object -/
set_option maxRecDepth 100000
def RJ8 : String := "java/lang/Object"
abbrev cJ8_init : ByteArray := object_method_1_code
def yJ8_init : MethodName := ⟨RJ8, "<init>", "()V"⟩
theorem dJ8_init_0 : decode cJ8_init 0 = .ok (.return_, 1) := by decide +kernel
theorem q47 : (Jvm.Cond.instanceMethod ({ cls := "java/lang/Object", name := "<init>", desc := "()V" } : Jvm.MethodName)) ∈ lw_all := lw_g (lw_at lw_m1 22 rfl) rfl
theorem q48 : (Jvm.Cond.code ({ cls := "java/lang/Object", name := "<init>", desc := "()V" } : Jvm.MethodName) object_method_1_code (1 : Nat) (Option.none : Option Jvm.ClassFile.FieldType)) ∈ lw_all := lw_g (lw_at lw_m1 23 rfl) rfl
/-! HoistRacks$Rack -/
set_option maxRecDepth 100000
def RX1 : String := "HoistRacks$Rack"
def TX1 : u_T := fun k => match k with
  | 0 => ("HoistRacks$Rack", "cells", "[I", true)
  | _ => ("HoistRacks$Rack", "many", "I", false)
def tyX1 : Nat → FieldType := fun k => match k with
  | 0 => .array .int
  | _ => .int
abbrev wsX10 : List Cond := u_ws RX1 TX1 2
theorem nmX1 : ∀ a, a < 2 → ∀ b, b < 2 → a ≠ b → (TX1 a).2.1 ≠ (TX1 b).2.1 := by decide +kernel
theorem tyX1_ok : ∀ k, k < 2 → parseFieldDescriptor (TX1 k).2.2.1 = some (tyX1 k) := by decide +kernel
abbrev cX1_init : ByteArray := prog_3_method_1_code
def yX1_init : MethodName := ⟨RX1, "<init>", "()V"⟩
theorem dX1_init_0 : decode cX1_init 0 = .ok (.aload_n 0, 1) := by decide +kernel
theorem dX1_init_1 : decode cX1_init 1 = .ok (.invokespecial 3, 3) := by decide +kernel
theorem dX1_init_4 : decode cX1_init 4 = .ok (.aload_n 0, 1) := by decide +kernel
theorem dX1_init_5 : decode cX1_init 5 = .ok (.bipush 12, 2) := by decide +kernel
theorem dX1_init_7 : decode cX1_init 7 = .ok (.newarray .int, 2) := by decide +kernel
theorem dX1_init_9 : decode cX1_init 9 = .ok (.putfield 9, 3) := by decide +kernel
theorem dX1_init_12 : decode cX1_init 12 = .ok (.return_, 1) := by decide +kernel
theorem q27 : (Jvm.Cond.initialized "HoistRacks$Rack") ∈ lw_all := lw_g (lw_at lw_m1 2 rfl) rfl
theorem q53 : (Jvm.Cond.instantiable "HoistRacks$Rack" (2 : Nat)) ∈ lw_all := lw_g (lw_at lw_m1 28 rfl) rfl
theorem q55 : (Jvm.Cond.instanceMethod ({ cls := "HoistRacks$Rack", name := "<init>", desc := "()V" } : Jvm.MethodName)) ∈ lw_all := lw_g (lw_at lw_m1 30 rfl) rfl
theorem q56 : (Jvm.Cond.code ({ cls := "HoistRacks$Rack", name := "<init>", desc := "()V" } : Jvm.MethodName) prog_3_method_1_code (1 : Nat) (Option.none : Option Jvm.ClassFile.FieldType)) ∈ lw_all := lw_g (lw_at lw_m1 31 rfl) rfl
theorem q57 : (Jvm.Cond.methodLink "HoistRacks$Rack" (3 : Nat) ({ cls := "java/lang/Object", name := "<init>", desc := "()V" } : Jvm.MethodName)) ∈ lw_all := lw_g (lw_at lw_m1 32 rfl) rfl
theorem q58 : (Jvm.Cond.fieldLink "HoistRacks$Rack" (9 : Nat) "HoistRacks$Rack" "cells" "[I") ∈ lw_all := lw_g (lw_at lw_m1 33 rfl) rfl
theorem q61 : (Jvm.Cond.laysFinal "HoistRacks$Rack" "HoistRacks$Rack" "cells" "[I") ∈ lw_all := lw_g (lw_at lw_m1 36 rfl) rfl
theorem q62 : (Jvm.Cond.soleField "HoistRacks$Rack" "cells") ∈ lw_all := lw_g (lw_at lw_m1 37 rfl) rfl
theorem q63 : (Jvm.Cond.lays "HoistRacks$Rack" "HoistRacks$Rack" "many" "I") ∈ lw_all := lw_g (lw_at lw_m1 38 rfl) rfl
theorem q64 : (Jvm.Cond.soleField "HoistRacks$Rack" "many") ∈ lw_all := lw_g (lw_at lw_m1 39 rfl) rfl
theorem q65 : (Jvm.Cond.superclass "HoistRacks$Rack" "java/lang/Object") ∈ lw_all := lw_g (lw_at lw_m1 40 rfl) rfl
theorem in_X1 : ∀ w ∈ wsX10, w ∈ lw_all := lw_in wsX10 [61, 63] (by decide +kernel) (by decide +kernel)
/-! HoistRacks$Hand -/
set_option maxRecDepth 100000
def RX3 : String := "HoistRacks$Hand"
def TX3 : u_T := fun k => match k with
  | _ => ("HoistRacks$Hand", "hands", "I", true)
def tyX3 : Nat → FieldType := fun k => match k with
  | _ => .int
abbrev wsX30 : List Cond := u_ws RX3 TX3 1
theorem nmX3 : ∀ a, a < 1 → ∀ b, b < 1 → a ≠ b → (TX3 a).2.1 ≠ (TX3 b).2.1 := by decide +kernel
theorem tyX3_ok : ∀ k, k < 1 → parseFieldDescriptor (TX3 k).2.2.1 = some (tyX3 k) := by decide +kernel
abbrev cX3_init : ByteArray := prog_2_method_1_code
def yX3_init : MethodName := ⟨RX3, "<init>", "(I)V"⟩
theorem dX3_init_0 : decode cX3_init 0 = .ok (.aload_n 0, 1) := by decide +kernel
theorem dX3_init_1 : decode cX3_init 1 = .ok (.invokespecial 1, 3) := by decide +kernel
theorem dX3_init_4 : decode cX3_init 4 = .ok (.aload_n 0, 1) := by decide +kernel
theorem dX3_init_5 : decode cX3_init 5 = .ok (.iload_n 1, 1) := by decide +kernel
theorem dX3_init_6 : decode cX3_init 6 = .ok (.putfield 7, 3) := by decide +kernel
theorem dX3_init_9 : decode cX3_init 9 = .ok (.return_, 1) := by decide +kernel
theorem q29 : (Jvm.Cond.initialized "HoistRacks$Hand") ∈ lw_all := lw_g (lw_at lw_m1 4 rfl) rfl
theorem q141 : (Jvm.Cond.instantiable "HoistRacks$Hand" (1 : Nat)) ∈ lw_all := lw_g (lw_at lw_m1 116 rfl) rfl
theorem q143 : (Jvm.Cond.instanceMethod ({ cls := "HoistRacks$Hand", name := "<init>", desc := "(I)V" } : Jvm.MethodName)) ∈ lw_all := lw_g (lw_at lw_m1 118 rfl) rfl
theorem q144 : (Jvm.Cond.code ({ cls := "HoistRacks$Hand", name := "<init>", desc := "(I)V" } : Jvm.MethodName) prog_2_method_1_code (2 : Nat) (Option.none : Option Jvm.ClassFile.FieldType)) ∈ lw_all := lw_g (lw_at lw_m1 119 rfl) rfl
theorem q145 : (Jvm.Cond.methodLink "HoistRacks$Hand" (1 : Nat) ({ cls := "java/lang/Object", name := "<init>", desc := "()V" } : Jvm.MethodName)) ∈ lw_all := lw_g (lw_at lw_m1 120 rfl) rfl
theorem q146 : (Jvm.Cond.fieldLink "HoistRacks$Hand" (7 : Nat) "HoistRacks$Hand" "hands" "I") ∈ lw_all := lw_g (lw_at lw_m1 121 rfl) rfl
theorem q148 : (Jvm.Cond.laysFinal "HoistRacks$Hand" "HoistRacks$Hand" "hands" "I") ∈ lw_all := lw_g (lw_at lw_m1 123 rfl) rfl
theorem q149 : (Jvm.Cond.soleField "HoistRacks$Hand" "hands") ∈ lw_all := lw_g (lw_at lw_m1 124 rfl) rfl
theorem q150 : (Jvm.Cond.superclass "HoistRacks$Hand" "java/lang/Object") ∈ lw_all := lw_g (lw_at lw_m1 125 rfl) rfl
theorem in_X3 : ∀ w ∈ wsX30, w ∈ lw_all := lw_in wsX30 [148] (by decide +kernel) (by decide +kernel)
/-! HoistRacks$Stuck -/
set_option maxRecDepth 100000
def RX4 : String := "HoistRacks$Stuck"
def TX4 : u_T := fun k => match k with
  | 0 => ("java/lang/Throwable", "cause", "Ljava/lang/Throwable;", false)
  | 1 => ("java/lang/Throwable", "stackTrace", "[Ljava/lang/StackTraceElement;", false)
  | 2 => ("java/lang/Throwable", "suppressedExceptions", "Ljava/util/List;", false)
  | 3 => ("java/lang/Throwable", "detailMessage", "Ljava/lang/String;", false)
  | 4 => ("java/lang/Throwable", "backtrace", "Ljava/lang/Object;", false)
  | 5 => ("java/lang/Throwable", "depth", "I", false)
  | _ => ("HoistRacks$Stuck", "kind", "I", true)
def tyX4 : Nat → FieldType := fun k => match k with
  | 0 => .object "java/lang/Throwable"
  | 1 => .array (.object "java/lang/StackTraceElement")
  | 2 => .object "java/util/List"
  | 3 => .object "java/lang/String"
  | 4 => .object "java/lang/Object"
  | 5 => .int
  | _ => .int
abbrev wsX40 : List Cond := u_ws RX4 TX4 7
theorem nmX4 : ∀ a, a < 7 → ∀ b, b < 7 → a ≠ b → (TX4 a).2.1 ≠ (TX4 b).2.1 := by decide +kernel
theorem tyX4_ok : ∀ k, k < 7 → parseFieldDescriptor (TX4 k).2.2.1 = some (tyX4 k) := by decide +kernel
abbrev cX4_init : ByteArray := prog_5_method_1_code
def yX4_init : MethodName := ⟨RX4, "<init>", "(I)V"⟩
theorem dX4_init_0 : decode cX4_init 0 = .ok (.aload_n 0, 1) := by decide +kernel
theorem dX4_init_1 : decode cX4_init 1 = .ok (.ldc 1, 2) := by decide +kernel
theorem dX4_init_3 : decode cX4_init 3 = .ok (.aconst_null, 1) := by decide +kernel
theorem dX4_init_4 : decode cX4_init 4 = .ok (.iconst 0, 1) := by decide +kernel
theorem dX4_init_5 : decode cX4_init 5 = .ok (.iconst 0, 1) := by decide +kernel
theorem dX4_init_6 : decode cX4_init 6 = .ok (.invokespecial 3, 3) := by decide +kernel
theorem dX4_init_9 : decode cX4_init 9 = .ok (.aload_n 0, 1) := by decide +kernel
theorem dX4_init_10 : decode cX4_init 10 = .ok (.iload_n 1, 1) := by decide +kernel
theorem dX4_init_11 : decode cX4_init 11 = .ok (.putfield 9, 3) := by decide +kernel
theorem dX4_init_14 : decode cX4_init 14 = .ok (.return_, 1) := by decide +kernel
theorem q38 : (Jvm.Cond.initialized "HoistRacks$Stuck") ∈ lw_all := lw_g (lw_at lw_m1 13 rfl) rfl
theorem q180 : (Jvm.Cond.selects "HoistRacks$Stuck" ({ cls := "java/lang/Throwable", name := "fillInStackTrace", desc := "()Ljava/lang/Throwable;" } : Jvm.MethodName) ({ cls := "java/lang/Throwable", name := "fillInStackTrace", desc := "()Ljava/lang/Throwable;" } : Jvm.MethodName)) ∈ lw_all := lw_g (lw_at lw_m1 155 rfl) rfl
theorem q297 : (Jvm.Cond.instantiable "HoistRacks$Stuck" (7 : Nat)) ∈ lw_all := lw_g (lw_at lw_m2 32 rfl) rfl
theorem q298 : (Jvm.Cond.castable "HoistRacks$Stuck" "HoistRacks$Stuck") ∈ lw_tbl := lw_at lw_m2 33 rfl
theorem q299 : (Jvm.Cond.selects "HoistRacks$Stuck" ({ cls := "java/lang/Throwable", name := "fillInStackTrace", desc := "(I)Ljava/lang/Throwable;" } : Jvm.MethodName) ({ cls := "java/lang/Throwable", name := "fillInStackTrace", desc := "(I)Ljava/lang/Throwable;" } : Jvm.MethodName)) ∈ lw_all := lw_g (lw_at lw_m2 34 rfl) rfl
theorem q300 : (Jvm.Cond.lays "HoistRacks$Stuck" "java/lang/Throwable" "cause" "Ljava/lang/Throwable;") ∈ lw_all := lw_g (lw_at lw_m2 35 rfl) rfl
theorem q301 : (Jvm.Cond.lays "HoistRacks$Stuck" "java/lang/Throwable" "stackTrace" "[Ljava/lang/StackTraceElement;") ∈ lw_all := lw_g (lw_at lw_m2 36 rfl) rfl
theorem q302 : (Jvm.Cond.lays "HoistRacks$Stuck" "java/lang/Throwable" "suppressedExceptions" "Ljava/util/List;") ∈ lw_all := lw_g (lw_at lw_m2 37 rfl) rfl
theorem q303 : (Jvm.Cond.lays "HoistRacks$Stuck" "java/lang/Throwable" "detailMessage" "Ljava/lang/String;") ∈ lw_all := lw_g (lw_at lw_m2 38 rfl) rfl
theorem q304 : (Jvm.Cond.lays "HoistRacks$Stuck" "java/lang/Throwable" "backtrace" "Ljava/lang/Object;") ∈ lw_all := lw_g (lw_at lw_m2 39 rfl) rfl
theorem q306 : (Jvm.Cond.instanceMethod ({ cls := "HoistRacks$Stuck", name := "<init>", desc := "(I)V" } : Jvm.MethodName)) ∈ lw_all := lw_g (lw_at lw_m2 41 rfl) rfl
theorem q307 : (Jvm.Cond.code ({ cls := "HoistRacks$Stuck", name := "<init>", desc := "(I)V" } : Jvm.MethodName) prog_5_method_1_code (2 : Nat) (Option.none : Option Jvm.ClassFile.FieldType)) ∈ lw_all := lw_g (lw_at lw_m2 42 rfl) rfl
theorem q308 : (Jvm.Cond.stringRef "HoistRacks$Stuck" (1 : Nat) "stuck") ∈ lw_tbl := lw_at lw_m2 43 rfl
theorem q309 : (Jvm.Cond.methodLink "HoistRacks$Stuck" (3 : Nat) ({ cls := "java/lang/Exception", name := "<init>", desc := "(Ljava/lang/String;Ljava/lang/Throwable;ZZ)V" } : Jvm.MethodName)) ∈ lw_all := lw_g (lw_at lw_m2 44 rfl) rfl
theorem q315 : (Jvm.Cond.fieldLink "HoistRacks$Stuck" (9 : Nat) "HoistRacks$Stuck" "kind" "I") ∈ lw_all := lw_g (lw_at lw_m2 50 rfl) rfl
theorem q317 : (Jvm.Cond.laysFinal "HoistRacks$Stuck" "HoistRacks$Stuck" "kind" "I") ∈ lw_all := lw_g (lw_at lw_m2 52 rfl) rfl
theorem q318 : (Jvm.Cond.soleField "HoistRacks$Stuck" "kind") ∈ lw_all := lw_g (lw_at lw_m2 53 rfl) rfl
theorem q319 : (Jvm.Cond.lays "HoistRacks$Stuck" "java/lang/Throwable" "depth" "I") ∈ lw_all := lw_g (lw_at lw_m2 54 rfl) rfl
theorem q320 : (Jvm.Cond.superclass "HoistRacks$Stuck" "java/lang/Exception") ∈ lw_all := lw_g (lw_at lw_m2 55 rfl) rfl
theorem q383 : (Jvm.Cond.selects "HoistRacks$Stuck" ({ cls := "java/lang/Throwable", name := "getCause", desc := "()Ljava/lang/Throwable;" } : Jvm.MethodName) ({ cls := "java/lang/Throwable", name := "getCause", desc := "()Ljava/lang/Throwable;" } : Jvm.MethodName)) ∈ lw_all := lw_g (lw_at lw_m2 118 rfl) rfl
theorem in_X4 : ∀ w ∈ wsX40, w ∈ lw_all := lw_in wsX40 [300, 301, 302, 303, 304, 319, 317] (by decide +kernel) (by decide +kernel)
/-! HoistRacks$Weary -/
set_option maxRecDepth 100000
def RX5 : String := "HoistRacks$Weary"
def TX5 : u_T := fun k => match k with
  | 0 => ("java/lang/Throwable", "cause", "Ljava/lang/Throwable;", false)
  | 1 => ("java/lang/Throwable", "stackTrace", "[Ljava/lang/StackTraceElement;", false)
  | 2 => ("java/lang/Throwable", "suppressedExceptions", "Ljava/util/List;", false)
  | 3 => ("java/lang/Throwable", "detailMessage", "Ljava/lang/String;", false)
  | 4 => ("java/lang/Throwable", "backtrace", "Ljava/lang/Object;", false)
  | _ => ("java/lang/Throwable", "depth", "I", false)
def tyX5 : Nat → FieldType := fun k => match k with
  | 0 => .object "java/lang/Throwable"
  | 1 => .array (.object "java/lang/StackTraceElement")
  | 2 => .object "java/util/List"
  | 3 => .object "java/lang/String"
  | 4 => .object "java/lang/Object"
  | _ => .int
abbrev wsX50 : List Cond := u_ws RX5 TX5 6
theorem nmX5 : ∀ a, a < 6 → ∀ b, b < 6 → a ≠ b → (TX5 a).2.1 ≠ (TX5 b).2.1 := by decide +kernel
theorem tyX5_ok : ∀ k, k < 6 → parseFieldDescriptor (TX5 k).2.2.1 = some (tyX5 k) := by decide +kernel
abbrev cX5_init : ByteArray := prog_6_method_1_code
def yX5_init : MethodName := ⟨RX5, "<init>", "()V"⟩
theorem dX5_init_0 : decode cX5_init 0 = .ok (.aload_n 0, 1) := by decide +kernel
theorem dX5_init_1 : decode cX5_init 1 = .ok (.ldc 1, 2) := by decide +kernel
theorem dX5_init_3 : decode cX5_init 3 = .ok (.aconst_null, 1) := by decide +kernel
theorem dX5_init_4 : decode cX5_init 4 = .ok (.iconst 0, 1) := by decide +kernel
theorem dX5_init_5 : decode cX5_init 5 = .ok (.iconst 0, 1) := by decide +kernel
theorem dX5_init_6 : decode cX5_init 6 = .ok (.invokespecial 3, 3) := by decide +kernel
theorem dX5_init_9 : decode cX5_init 9 = .ok (.return_, 1) := by decide +kernel
theorem q39 : (Jvm.Cond.initialized "HoistRacks$Weary") ∈ lw_all := lw_g (lw_at lw_m1 14 rfl) rfl
theorem q181 : (Jvm.Cond.selects "HoistRacks$Weary" ({ cls := "java/lang/Throwable", name := "fillInStackTrace", desc := "()Ljava/lang/Throwable;" } : Jvm.MethodName) ({ cls := "java/lang/Throwable", name := "fillInStackTrace", desc := "()Ljava/lang/Throwable;" } : Jvm.MethodName)) ∈ lw_all := lw_g (lw_at lw_m1 156 rfl) rfl
theorem q329 : (Jvm.Cond.instantiable "HoistRacks$Weary" (6 : Nat)) ∈ lw_all := lw_g (lw_at lw_m2 64 rfl) rfl
theorem q330 : (Jvm.Cond.castable "HoistRacks$Weary" "HoistRacks$Weary") ∈ lw_tbl := lw_at lw_m2 65 rfl
theorem q331 : (Jvm.Cond.selects "HoistRacks$Weary" ({ cls := "java/lang/Throwable", name := "fillInStackTrace", desc := "(I)Ljava/lang/Throwable;" } : Jvm.MethodName) ({ cls := "java/lang/Throwable", name := "fillInStackTrace", desc := "(I)Ljava/lang/Throwable;" } : Jvm.MethodName)) ∈ lw_all := lw_g (lw_at lw_m2 66 rfl) rfl
theorem q332 : (Jvm.Cond.lays "HoistRacks$Weary" "java/lang/Throwable" "cause" "Ljava/lang/Throwable;") ∈ lw_all := lw_g (lw_at lw_m2 67 rfl) rfl
theorem q333 : (Jvm.Cond.lays "HoistRacks$Weary" "java/lang/Throwable" "stackTrace" "[Ljava/lang/StackTraceElement;") ∈ lw_all := lw_g (lw_at lw_m2 68 rfl) rfl
theorem q334 : (Jvm.Cond.lays "HoistRacks$Weary" "java/lang/Throwable" "suppressedExceptions" "Ljava/util/List;") ∈ lw_all := lw_g (lw_at lw_m2 69 rfl) rfl
theorem q335 : (Jvm.Cond.lays "HoistRacks$Weary" "java/lang/Throwable" "detailMessage" "Ljava/lang/String;") ∈ lw_all := lw_g (lw_at lw_m2 70 rfl) rfl
theorem q336 : (Jvm.Cond.lays "HoistRacks$Weary" "java/lang/Throwable" "backtrace" "Ljava/lang/Object;") ∈ lw_all := lw_g (lw_at lw_m2 71 rfl) rfl
theorem q338 : (Jvm.Cond.instanceMethod ({ cls := "HoistRacks$Weary", name := "<init>", desc := "()V" } : Jvm.MethodName)) ∈ lw_all := lw_g (lw_at lw_m2 73 rfl) rfl
theorem q339 : (Jvm.Cond.code ({ cls := "HoistRacks$Weary", name := "<init>", desc := "()V" } : Jvm.MethodName) prog_6_method_1_code (1 : Nat) (Option.none : Option Jvm.ClassFile.FieldType)) ∈ lw_all := lw_g (lw_at lw_m2 74 rfl) rfl
theorem q340 : (Jvm.Cond.stringRef "HoistRacks$Weary" (1 : Nat) "weary") ∈ lw_tbl := lw_at lw_m2 75 rfl
theorem q341 : (Jvm.Cond.methodLink "HoistRacks$Weary" (3 : Nat) ({ cls := "java/lang/Exception", name := "<init>", desc := "(Ljava/lang/String;Ljava/lang/Throwable;ZZ)V" } : Jvm.MethodName)) ∈ lw_all := lw_g (lw_at lw_m2 76 rfl) rfl
theorem q342 : (Jvm.Cond.lays "HoistRacks$Weary" "java/lang/Throwable" "depth" "I") ∈ lw_all := lw_g (lw_at lw_m2 77 rfl) rfl
theorem q343 : (Jvm.Cond.superclass "HoistRacks$Weary" "java/lang/Exception") ∈ lw_all := lw_g (lw_at lw_m2 78 rfl) rfl
theorem q384 : (Jvm.Cond.selects "HoistRacks$Weary" ({ cls := "java/lang/Throwable", name := "getCause", desc := "()Ljava/lang/Throwable;" } : Jvm.MethodName) ({ cls := "java/lang/Throwable", name := "getCause", desc := "()Ljava/lang/Throwable;" } : Jvm.MethodName)) ∈ lw_all := lw_g (lw_at lw_m2 119 rfl) rfl
theorem in_X5 : ∀ w ∈ wsX50, w ∈ lw_all := lw_in wsX50 [332, 333, 334, 335, 336, 342] (by decide +kernel) (by decide +kernel)
/-! HoistRacks$Spill -/
set_option maxRecDepth 100000
def RX6 : String := "HoistRacks$Spill"
def TX6 : u_T := fun k => match k with
  | 0 => ("java/lang/Throwable", "cause", "Ljava/lang/Throwable;", false)
  | 1 => ("java/lang/Throwable", "stackTrace", "[Ljava/lang/StackTraceElement;", false)
  | 2 => ("java/lang/Throwable", "suppressedExceptions", "Ljava/util/List;", false)
  | 3 => ("java/lang/Throwable", "detailMessage", "Ljava/lang/String;", false)
  | 4 => ("java/lang/Throwable", "backtrace", "Ljava/lang/Object;", false)
  | 5 => ("java/lang/Throwable", "depth", "I", false)
  | _ => ("HoistRacks$Spill", "rack", "I", true)
def tyX6 : Nat → FieldType := fun k => match k with
  | 0 => .object "java/lang/Throwable"
  | 1 => .array (.object "java/lang/StackTraceElement")
  | 2 => .object "java/util/List"
  | 3 => .object "java/lang/String"
  | 4 => .object "java/lang/Object"
  | 5 => .int
  | _ => .int
abbrev wsX60 : List Cond := u_ws RX6 TX6 7
theorem nmX6 : ∀ a, a < 7 → ∀ b, b < 7 → a ≠ b → (TX6 a).2.1 ≠ (TX6 b).2.1 := by decide +kernel
theorem tyX6_ok : ∀ k, k < 7 → parseFieldDescriptor (TX6 k).2.2.1 = some (tyX6 k) := by decide +kernel
abbrev cX6_init : ByteArray := prog_4_method_1_code
def yX6_init : MethodName := ⟨RX6, "<init>", "(ILjava/lang/Exception;)V"⟩
theorem dX6_init_0 : decode cX6_init 0 = .ok (.aload_n 0, 1) := by decide +kernel
theorem dX6_init_1 : decode cX6_init 1 = .ok (.ldc 1, 2) := by decide +kernel
theorem dX6_init_3 : decode cX6_init 3 = .ok (.aload_n 2, 1) := by decide +kernel
theorem dX6_init_4 : decode cX6_init 4 = .ok (.iconst 0, 1) := by decide +kernel
theorem dX6_init_5 : decode cX6_init 5 = .ok (.iconst 0, 1) := by decide +kernel
theorem dX6_init_6 : decode cX6_init 6 = .ok (.invokespecial 3, 3) := by decide +kernel
theorem dX6_init_9 : decode cX6_init 9 = .ok (.aload_n 0, 1) := by decide +kernel
theorem dX6_init_10 : decode cX6_init 10 = .ok (.iload_n 1, 1) := by decide +kernel
theorem dX6_init_11 : decode cX6_init 11 = .ok (.putfield 9, 3) := by decide +kernel
theorem dX6_init_14 : decode cX6_init 14 = .ok (.return_, 1) := by decide +kernel
theorem q40 : (Jvm.Cond.initialized "HoistRacks$Spill") ∈ lw_all := lw_g (lw_at lw_m1 15 rfl) rfl
theorem q179 : (Jvm.Cond.selects "HoistRacks$Spill" ({ cls := "java/lang/Throwable", name := "fillInStackTrace", desc := "()Ljava/lang/Throwable;" } : Jvm.MethodName) ({ cls := "java/lang/Throwable", name := "fillInStackTrace", desc := "()Ljava/lang/Throwable;" } : Jvm.MethodName)) ∈ lw_all := lw_g (lw_at lw_m1 154 rfl) rfl
theorem q356 : (Jvm.Cond.instantiable "HoistRacks$Spill" (7 : Nat)) ∈ lw_all := lw_g (lw_at lw_m2 91 rfl) rfl
theorem q357 : (Jvm.Cond.castable "HoistRacks$Spill" "HoistRacks$Spill") ∈ lw_tbl := lw_at lw_m2 92 rfl
theorem q358 : (Jvm.Cond.selects "HoistRacks$Spill" ({ cls := "java/lang/Throwable", name := "fillInStackTrace", desc := "(I)Ljava/lang/Throwable;" } : Jvm.MethodName) ({ cls := "java/lang/Throwable", name := "fillInStackTrace", desc := "(I)Ljava/lang/Throwable;" } : Jvm.MethodName)) ∈ lw_all := lw_g (lw_at lw_m2 93 rfl) rfl
theorem q359 : (Jvm.Cond.lays "HoistRacks$Spill" "java/lang/Throwable" "cause" "Ljava/lang/Throwable;") ∈ lw_all := lw_g (lw_at lw_m2 94 rfl) rfl
theorem q360 : (Jvm.Cond.lays "HoistRacks$Spill" "java/lang/Throwable" "stackTrace" "[Ljava/lang/StackTraceElement;") ∈ lw_all := lw_g (lw_at lw_m2 95 rfl) rfl
theorem q361 : (Jvm.Cond.lays "HoistRacks$Spill" "java/lang/Throwable" "suppressedExceptions" "Ljava/util/List;") ∈ lw_all := lw_g (lw_at lw_m2 96 rfl) rfl
theorem q362 : (Jvm.Cond.lays "HoistRacks$Spill" "java/lang/Throwable" "detailMessage" "Ljava/lang/String;") ∈ lw_all := lw_g (lw_at lw_m2 97 rfl) rfl
theorem q363 : (Jvm.Cond.lays "HoistRacks$Spill" "java/lang/Throwable" "backtrace" "Ljava/lang/Object;") ∈ lw_all := lw_g (lw_at lw_m2 98 rfl) rfl
theorem q365 : (Jvm.Cond.instanceMethod ({ cls := "HoistRacks$Spill", name := "<init>", desc := "(ILjava/lang/Exception;)V" } : Jvm.MethodName)) ∈ lw_all := lw_g (lw_at lw_m2 100 rfl) rfl
theorem q366 : (Jvm.Cond.code ({ cls := "HoistRacks$Spill", name := "<init>", desc := "(ILjava/lang/Exception;)V" } : Jvm.MethodName) prog_4_method_1_code (3 : Nat) (Option.none : Option Jvm.ClassFile.FieldType)) ∈ lw_all := lw_g (lw_at lw_m2 101 rfl) rfl
theorem q367 : (Jvm.Cond.stringRef "HoistRacks$Spill" (1 : Nat) "spill") ∈ lw_tbl := lw_at lw_m2 102 rfl
theorem q368 : (Jvm.Cond.methodLink "HoistRacks$Spill" (3 : Nat) ({ cls := "java/lang/Exception", name := "<init>", desc := "(Ljava/lang/String;Ljava/lang/Throwable;ZZ)V" } : Jvm.MethodName)) ∈ lw_all := lw_g (lw_at lw_m2 103 rfl) rfl
theorem q369 : (Jvm.Cond.fieldLink "HoistRacks$Spill" (9 : Nat) "HoistRacks$Spill" "rack" "I") ∈ lw_all := lw_g (lw_at lw_m2 104 rfl) rfl
theorem q371 : (Jvm.Cond.laysFinal "HoistRacks$Spill" "HoistRacks$Spill" "rack" "I") ∈ lw_all := lw_g (lw_at lw_m2 106 rfl) rfl
theorem q372 : (Jvm.Cond.soleField "HoistRacks$Spill" "rack") ∈ lw_all := lw_g (lw_at lw_m2 107 rfl) rfl
theorem q373 : (Jvm.Cond.lays "HoistRacks$Spill" "java/lang/Throwable" "depth" "I") ∈ lw_all := lw_g (lw_at lw_m2 108 rfl) rfl
theorem q374 : (Jvm.Cond.superclass "HoistRacks$Spill" "java/lang/Exception") ∈ lw_all := lw_g (lw_at lw_m2 109 rfl) rfl
theorem q382 : (Jvm.Cond.selects "HoistRacks$Spill" ({ cls := "java/lang/Throwable", name := "getCause", desc := "()Ljava/lang/Throwable;" } : Jvm.MethodName) ({ cls := "java/lang/Throwable", name := "getCause", desc := "()Ljava/lang/Throwable;" } : Jvm.MethodName)) ∈ lw_all := lw_g (lw_at lw_m2 117 rfl) rfl
theorem in_X6 : ∀ w ∈ wsX60, w ∈ lw_all := lw_in wsX60 [359, 360, 361, 362, 363, 373, 371] (by decide +kernel) (by decide +kernel)
theorem q25 : (Jvm.Cond.initialized "HoistRacksLaw") ∈ lw_all := lw_g (lw_at lw_m1 0 rfl) rfl
set_option maxRecDepth 100000
theorem q41 : (Jvm.Cond.classLink "HoistRacksLaw" (7 : Nat) "HoistRacks") ∈ lw_all := lw_g (lw_at lw_m1 16 rfl) rfl
theorem q43 : (Jvm.Cond.methodLink "HoistRacksLaw" (9 : Nat) ({ cls := "HoistRacks", name := "<init>", desc := "()V" } : Jvm.MethodName)) ∈ lw_all := lw_g (lw_at lw_m1 18 rfl) rfl
theorem q119 : (Jvm.Cond.methodLink "HoistRacksLaw" (13 : Nat) ({ cls := "HoistRacks", name := "cell", desc := "(II)I" } : Jvm.MethodName)) ∈ lw_all := lw_g (lw_at lw_m1 94 rfl) rfl
theorem q129 : (Jvm.Cond.methodLink "HoistRacksLaw" (18 : Nat) ({ cls := "HoistRacks", name := "clear", desc := "(I)I" } : Jvm.MethodName)) ∈ lw_all := lw_g (lw_at lw_m1 104 rfl) rfl
theorem q133 : (Jvm.Cond.methodLink "HoistRacksLaw" (23 : Nat) ({ cls := "HoistRacks", name := "tare", desc := "(I)I" } : Jvm.MethodName)) ∈ lw_all := lw_g (lw_at lw_m1 108 rfl) rfl
theorem q137 : (Jvm.Cond.methodLink "HoistRacksLaw" (27 : Nat) ({ cls := "HoistRacks", name := "crew", desc := "(II)I" } : Jvm.MethodName)) ∈ lw_all := lw_g (lw_at lw_m1 112 rfl) rfl
theorem q151 : (Jvm.Cond.methodLink "HoistRacksLaw" (31 : Nat) ({ cls := "HoistRacks", name := "run", desc := "(II)I" } : Jvm.MethodName)) ∈ lw_all := lw_g (lw_at lw_m1 126 rfl) rfl
theorem q389 : (Jvm.Cond.methodLink "HoistRacksLaw" (35 : Nat) ({ cls := "HoistRacks", name := "told", desc := "(I)I" } : Jvm.MethodName)) ∈ lw_all := lw_g (lw_at lw_m2 124 rfl) rfl
theorem q393 : (Jvm.Cond.methodLink "HoistRacksLaw" (39 : Nat) ({ cls := "HoistRacks", name := "note", desc := "(I)I" } : Jvm.MethodName)) ∈ lw_all := lw_g (lw_at lw_m2 128 rfl) rfl
theorem q397 : (Jvm.Cond.methodLink "HoistRacksLaw" (43 : Nat) ({ cls := "HoistRacks", name := "held", desc := "(I)I" } : Jvm.MethodName)) ∈ lw_all := lw_g (lw_at lw_m2 132 rfl) rfl
theorem q401 : (Jvm.Cond.methodLink "HoistRacksLaw" (47 : Nat) ({ cls := "HoistRacks", name := "cells", desc := "(I)I" } : Jvm.MethodName)) ∈ lw_all := lw_g (lw_at lw_m2 136 rfl) rfl
theorem q405 : (Jvm.Cond.classLink "HoistRacksLaw" (10 : Nat) "HoistRacksModel") ∈ lw_all := lw_g (lw_at lw_m2 140 rfl) rfl
theorem q407 : (Jvm.Cond.methodLink "HoistRacksLaw" (12 : Nat) ({ cls := "HoistRacksModel", name := "<init>", desc := "()V" } : Jvm.MethodName)) ∈ lw_all := lw_g (lw_at lw_m2 142 rfl) rfl
theorem q463 : (Jvm.Cond.methodLink "HoistRacksLaw" (17 : Nat) ({ cls := "HoistRacksModel", name := "cell", desc := "(II)I" } : Jvm.MethodName)) ∈ lw_all := lw_g (lw_at lw_m2 198 rfl) rfl
theorem q476 : (Jvm.Cond.methodLink "HoistRacksLaw" (22 : Nat) ({ cls := "HoistRacksModel", name := "clear", desc := "(I)I" } : Jvm.MethodName)) ∈ lw_all := lw_g (lw_at lw_m2 211 rfl) rfl
theorem q480 : (Jvm.Cond.methodLink "HoistRacksLaw" (26 : Nat) ({ cls := "HoistRacksModel", name := "tare", desc := "(I)I" } : Jvm.MethodName)) ∈ lw_all := lw_g (lw_at lw_m2 215 rfl) rfl
theorem q484 : (Jvm.Cond.methodLink "HoistRacksLaw" (30 : Nat) ({ cls := "HoistRacksModel", name := "crew", desc := "(II)I" } : Jvm.MethodName)) ∈ lw_all := lw_g (lw_at lw_m2 219 rfl) rfl
theorem q488 : (Jvm.Cond.methodLink "HoistRacksLaw" (34 : Nat) ({ cls := "HoistRacksModel", name := "run", desc := "(II)I" } : Jvm.MethodName)) ∈ lw_all := lw_g (lw_at lw_m2 223 rfl) rfl
theorem q552 : (Jvm.Cond.methodLink "HoistRacksLaw" (38 : Nat) ({ cls := "HoistRacksModel", name := "told", desc := "(I)I" } : Jvm.MethodName)) ∈ lw_all := lw_g (lw_at lw_m3 47 rfl) rfl
theorem q556 : (Jvm.Cond.methodLink "HoistRacksLaw" (42 : Nat) ({ cls := "HoistRacksModel", name := "note", desc := "(I)I" } : Jvm.MethodName)) ∈ lw_all := lw_g (lw_at lw_m3 51 rfl) rfl
theorem q560 : (Jvm.Cond.methodLink "HoistRacksLaw" (46 : Nat) ({ cls := "HoistRacksModel", name := "held", desc := "(I)I" } : Jvm.MethodName)) ∈ lw_all := lw_g (lw_at lw_m3 55 rfl) rfl
theorem q564 : (Jvm.Cond.methodLink "HoistRacksLaw" (50 : Nat) ({ cls := "HoistRacksModel", name := "cells", desc := "(I)I" } : Jvm.MethodName)) ∈ lw_all := lw_g (lw_at lw_m3 59 rfl) rfl
theorem q50 : (Jvm.Cond.arrayOver (Jvm.ClassFile.FieldType.object "HoistRacks$Rack")) ∈ lw_tbl := lw_at lw_m1 25 rfl
set_option maxRecDepth 100000
theorem q52 : (Jvm.Cond.arrayOver (Jvm.ClassFile.FieldType.object "HoistRacks$Hand")) ∈ lw_tbl := lw_at lw_m1 27 rfl
theorem q66 : (Jvm.Cond.arrayClass Jvm.ClassFile.FieldType.int) ∈ lw_all := lw_g (lw_at lw_m1 41 rfl) rfl
theorem q240 : (Jvm.Cond.arrayClass Jvm.ClassFile.FieldType.byte) ∈ lw_all := lw_g (lw_at lw_m1 215 rfl) rfl
end
section
/-! HoistRacksModel -/
set_option maxRecDepth 100000
def RX2 : String := "HoistRacksModel"
def TX2 : u_T := fun k => match k with
  | 0 => ("HoistRacksModel", "many", "[I", true)
  | 1 => ("HoistRacksModel", "cells", "[I", true)
  | 2 => ("HoistRacksModel", "hands", "[I", true)
  | 3 => ("HoistRacksModel", "tare", "I", false)
  | 4 => ("HoistRacksModel", "load", "I", false)
  | 5 => ("HoistRacksModel", "total", "I", false)
  | 6 => ("HoistRacksModel", "failure", "I", false)
  | 7 => ("HoistRacksModel", "causes", "I", false)
  | 8 => ("HoistRacksModel", "last", "I", false)
  | 9 => ("HoistRacksModel", "rackOfFive", "I", false)
  | 10 => ("HoistRacksModel", "begun", "I", false)
  | 11 => ("HoistRacksModel", "mostRopes", "I", false)
  | 12 => ("HoistRacksModel", "notes", "I", false)
  | 13 => ("HoistRacksModel", "note", "[I", true)
  | 14 => ("HoistRacksModel", "depth", "I", false)
  | 15 => ("HoistRacksModel", "rack", "[I", true)
  | _ => ("HoistRacksModel", "at", "[I", true)
def tyX2 : Nat → FieldType := fun k => match k with
  | 0 => .array .int
  | 1 => .array .int
  | 2 => .array .int
  | 3 => .int
  | 4 => .int
  | 5 => .int
  | 6 => .int
  | 7 => .int
  | 8 => .int
  | 9 => .int
  | 10 => .int
  | 11 => .int
  | 12 => .int
  | 13 => .array .int
  | 14 => .int
  | 15 => .array .int
  | _ => .array .int
abbrev wsX20 : List Cond := u_ws RX2 TX2 17
set_option maxRecDepth 100000 in
theorem nmX2 : ∀ a, a < 17 → ∀ b, b < 17 → a ≠ b → (TX2 a).2.1 ≠ (TX2 b).2.1 := by decide +kernel
set_option maxRecDepth 100000 in
theorem tyX2_ok : ∀ k, k < 17 → parseFieldDescriptor (TX2 k).2.2.1 = some (tyX2 k) := by decide +kernel
abbrev cX2_init : ByteArray := prog_8_method_1_code
def yX2_init : MethodName := ⟨RX2, "<init>", "()V"⟩
abbrev cX2_cell : ByteArray := prog_8_method_5_code
def yX2_cell : MethodName := ⟨RX2, "cell", "(II)I"⟩
abbrev cX2_isRack : ByteArray := prog_8_method_3_code
def yX2_isRack : MethodName := ⟨RX2, "isRack", "(I)Z"⟩
abbrev cX2_in : ByteArray := prog_8_method_2_code
def yX2_in : MethodName := ⟨RX2, "in", "(III)Z"⟩
abbrev cX2_isCell : ByteArray := prog_8_method_4_code
def yX2_isCell : MethodName := ⟨RX2, "isCell", "(I)Z"⟩
abbrev cX2_clear : ByteArray := prog_8_method_6_code
def yX2_clear : MethodName := ⟨RX2, "clear", "(I)I"⟩
abbrev cX2_tare : ByteArray := prog_8_method_7_code
def yX2_tare : MethodName := ⟨RX2, "tare", "(I)I"⟩
abbrev cX2_crew : ByteArray := prog_8_method_8_code
def yX2_crew : MethodName := ⟨RX2, "crew", "(II)I"⟩
abbrev cX2_run : ByteArray := prog_8_method_24_code
def yX2_run : MethodName := ⟨RX2, "run", "(II)I"⟩
abbrev cX2_fails : ByteArray := prog_8_method_13_code
def yX2_fails : MethodName := ⟨RX2, "fails", "(I)V"⟩
abbrev cX2_begins : ByteArray := prog_8_method_17_code
def yX2_begins : MethodName := ⟨RX2, "begins", "(I)V"⟩
abbrev cX2_writes : ByteArray := prog_8_method_9_code
def yX2_writes : MethodName := ⟨RX2, "writes", "(I)V"⟩
abbrev cX2_finishes : ByteArray := prog_8_method_19_code
def yX2_finishes : MethodName := ⟨RX2, "finishes", "()V"⟩
abbrev cX2_ends : ByteArray := prog_8_method_16_code
def yX2_ends : MethodName := ⟨RX2, "ends", "()V"⟩
abbrev cX2_passes : ByteArray := prog_8_method_12_code
def yX2_passes : MethodName := ⟨RX2, "passes", "()V"⟩
abbrev cX2_closes : ByteArray := prog_8_method_11_code
def yX2_closes : MethodName := ⟨RX2, "closes", "()V"⟩
abbrev cX2_doCell : ByteArray := prog_8_method_23_code
def yX2_doCell : MethodName := ⟨RX2, "doCell", "()V"⟩
abbrev cX2_up : ByteArray := prog_8_method_15_code
def yX2_up : MethodName := ⟨RX2, "up", "()V"⟩
abbrev cX2_takes : ByteArray := prog_8_method_14_code
def yX2_takes : MethodName := ⟨RX2, "takes", "()Z"⟩
abbrev cX2_cellAtHand : ByteArray := prog_8_method_10_code
def yX2_cellAtHand : MethodName := ⟨RX2, "cellAtHand", "()I"⟩
abbrev cX2_lifts : ByteArray := prog_8_method_18_code
def yX2_lifts : MethodName := ⟨RX2, "lifts", "(I)V"⟩
abbrev cX2_barrel : ByteArray := prog_8_method_21_code
def yX2_barrel : MethodName := ⟨RX2, "barrel", "(I)V"⟩
abbrev cX2_help : ByteArray := prog_8_method_20_code
def yX2_help : MethodName := ⟨RX2, "help", "(I)V"⟩
abbrev cX2_leaves : ByteArray := prog_8_method_22_code
def yX2_leaves : MethodName := ⟨RX2, "leaves", "(I)V"⟩
abbrev cX2_told : ByteArray := prog_8_method_25_code
def yX2_told : MethodName := ⟨RX2, "told", "(I)I"⟩
abbrev cX2_note : ByteArray := prog_8_method_26_code
def yX2_note : MethodName := ⟨RX2, "note", "(I)I"⟩
abbrev cX2_held : ByteArray := prog_8_method_27_code
def yX2_held : MethodName := ⟨RX2, "held", "(I)I"⟩
abbrev cX2_cells : ByteArray := prog_8_method_28_code
def yX2_cells : MethodName := ⟨RX2, "cells", "(I)I"⟩
theorem q28 : (Jvm.Cond.initialized "HoistRacksModel") ∈ lw_all := lw_g (lw_at lw_m1 3 rfl) rfl
theorem q406 : (Jvm.Cond.instantiable "HoistRacksModel" (17 : Nat)) ∈ lw_all := lw_g (lw_at lw_m2 141 rfl) rfl
theorem q408 : (Jvm.Cond.instanceMethod ({ cls := "HoistRacksModel", name := "<init>", desc := "()V" } : Jvm.MethodName)) ∈ lw_all := lw_g (lw_at lw_m2 143 rfl) rfl
theorem q409 : (Jvm.Cond.code ({ cls := "HoistRacksModel", name := "<init>", desc := "()V" } : Jvm.MethodName) prog_8_method_1_code (1 : Nat) (Option.none : Option Jvm.ClassFile.FieldType)) ∈ lw_all := lw_g (lw_at lw_m2 144 rfl) rfl
theorem q410 : (Jvm.Cond.methodLink "HoistRacksModel" (1 : Nat) ({ cls := "java/lang/Object", name := "<init>", desc := "()V" } : Jvm.MethodName)) ∈ lw_all := lw_g (lw_at lw_m2 145 rfl) rfl
theorem q411 : (Jvm.Cond.fieldLink "HoistRacksModel" (7 : Nat) "HoistRacksModel" "many" "[I") ∈ lw_all := lw_g (lw_at lw_m2 146 rfl) rfl
theorem q412 : (Jvm.Cond.fieldLink "HoistRacksModel" (13 : Nat) "HoistRacksModel" "cells" "[I") ∈ lw_all := lw_g (lw_at lw_m2 147 rfl) rfl
theorem q413 : (Jvm.Cond.fieldLink "HoistRacksModel" (16 : Nat) "HoistRacksModel" "hands" "[I") ∈ lw_all := lw_g (lw_at lw_m2 148 rfl) rfl
theorem q414 : (Jvm.Cond.fieldLink "HoistRacksModel" (43 : Nat) "HoistRacksModel" "tare" "I") ∈ lw_all := lw_g (lw_at lw_m2 149 rfl) rfl
theorem q415 : (Jvm.Cond.fieldLink "HoistRacksModel" (97 : Nat) "HoistRacksModel" "load" "I") ∈ lw_all := lw_g (lw_at lw_m2 150 rfl) rfl
theorem q416 : (Jvm.Cond.fieldLink "HoistRacksModel" (72 : Nat) "HoistRacksModel" "total" "I") ∈ lw_all := lw_g (lw_at lw_m2 151 rfl) rfl
theorem q417 : (Jvm.Cond.fieldLink "HoistRacksModel" (59 : Nat) "HoistRacksModel" "failure" "I") ∈ lw_all := lw_g (lw_at lw_m2 152 rfl) rfl
theorem q418 : (Jvm.Cond.fieldLink "HoistRacksModel" (62 : Nat) "HoistRacksModel" "causes" "I") ∈ lw_all := lw_g (lw_at lw_m2 153 rfl) rfl
theorem q419 : (Jvm.Cond.fieldLink "HoistRacksModel" (65 : Nat) "HoistRacksModel" "last" "I") ∈ lw_all := lw_g (lw_at lw_m2 154 rfl) rfl
theorem q420 : (Jvm.Cond.fieldLink "HoistRacksModel" (19 : Nat) "HoistRacksModel" "rackOfFive" "I") ∈ lw_all := lw_g (lw_at lw_m2 155 rfl) rfl
theorem q421 : (Jvm.Cond.fieldLink "HoistRacksModel" (103 : Nat) "HoistRacksModel" "begun" "I") ∈ lw_all := lw_g (lw_at lw_m2 156 rfl) rfl
theorem q422 : (Jvm.Cond.fieldLink "HoistRacksModel" (85 : Nat) "HoistRacksModel" "mostRopes" "I") ∈ lw_all := lw_g (lw_at lw_m2 157 rfl) rfl
theorem q423 : (Jvm.Cond.fieldLink "HoistRacksModel" (46 : Nat) "HoistRacksModel" "notes" "I") ∈ lw_all := lw_g (lw_at lw_m2 158 rfl) rfl
theorem q424 : (Jvm.Cond.fieldLink "HoistRacksModel" (23 : Nat) "HoistRacksModel" "note" "[I") ∈ lw_all := lw_g (lw_at lw_m2 159 rfl) rfl
theorem q425 : (Jvm.Cond.fieldLink "HoistRacksModel" (49 : Nat) "HoistRacksModel" "depth" "I") ∈ lw_all := lw_g (lw_at lw_m2 160 rfl) rfl
theorem q426 : (Jvm.Cond.fieldLink "HoistRacksModel" (26 : Nat) "HoistRacksModel" "rack" "[I") ∈ lw_all := lw_g (lw_at lw_m2 161 rfl) rfl
theorem q427 : (Jvm.Cond.fieldLink "HoistRacksModel" (29 : Nat) "HoistRacksModel" "at" "[I") ∈ lw_all := lw_g (lw_at lw_m2 162 rfl) rfl
theorem q428 : (Jvm.Cond.laysFinal "HoistRacksModel" "HoistRacksModel" "many" "[I") ∈ lw_all := lw_g (lw_at lw_m2 163 rfl) rfl
theorem q429 : (Jvm.Cond.soleField "HoistRacksModel" "many") ∈ lw_all := lw_g (lw_at lw_m2 164 rfl) rfl
theorem q430 : (Jvm.Cond.laysFinal "HoistRacksModel" "HoistRacksModel" "cells" "[I") ∈ lw_all := lw_g (lw_at lw_m2 165 rfl) rfl
theorem q431 : (Jvm.Cond.soleField "HoistRacksModel" "cells") ∈ lw_all := lw_g (lw_at lw_m2 166 rfl) rfl
theorem q432 : (Jvm.Cond.laysFinal "HoistRacksModel" "HoistRacksModel" "hands" "[I") ∈ lw_all := lw_g (lw_at lw_m2 167 rfl) rfl
theorem q433 : (Jvm.Cond.soleField "HoistRacksModel" "hands") ∈ lw_all := lw_g (lw_at lw_m2 168 rfl) rfl
theorem q434 : (Jvm.Cond.lays "HoistRacksModel" "HoistRacksModel" "tare" "I") ∈ lw_all := lw_g (lw_at lw_m2 169 rfl) rfl
theorem q435 : (Jvm.Cond.soleField "HoistRacksModel" "tare") ∈ lw_all := lw_g (lw_at lw_m2 170 rfl) rfl
theorem q436 : (Jvm.Cond.lays "HoistRacksModel" "HoistRacksModel" "load" "I") ∈ lw_all := lw_g (lw_at lw_m2 171 rfl) rfl
theorem q437 : (Jvm.Cond.soleField "HoistRacksModel" "load") ∈ lw_all := lw_g (lw_at lw_m2 172 rfl) rfl
theorem q438 : (Jvm.Cond.lays "HoistRacksModel" "HoistRacksModel" "total" "I") ∈ lw_all := lw_g (lw_at lw_m2 173 rfl) rfl
theorem q439 : (Jvm.Cond.soleField "HoistRacksModel" "total") ∈ lw_all := lw_g (lw_at lw_m2 174 rfl) rfl
theorem q440 : (Jvm.Cond.lays "HoistRacksModel" "HoistRacksModel" "failure" "I") ∈ lw_all := lw_g (lw_at lw_m2 175 rfl) rfl
theorem q441 : (Jvm.Cond.soleField "HoistRacksModel" "failure") ∈ lw_all := lw_g (lw_at lw_m2 176 rfl) rfl
theorem q442 : (Jvm.Cond.lays "HoistRacksModel" "HoistRacksModel" "causes" "I") ∈ lw_all := lw_g (lw_at lw_m2 177 rfl) rfl
theorem q443 : (Jvm.Cond.soleField "HoistRacksModel" "causes") ∈ lw_all := lw_g (lw_at lw_m2 178 rfl) rfl
theorem q444 : (Jvm.Cond.lays "HoistRacksModel" "HoistRacksModel" "last" "I") ∈ lw_all := lw_g (lw_at lw_m2 179 rfl) rfl
theorem q445 : (Jvm.Cond.soleField "HoistRacksModel" "last") ∈ lw_all := lw_g (lw_at lw_m2 180 rfl) rfl
theorem q446 : (Jvm.Cond.lays "HoistRacksModel" "HoistRacksModel" "rackOfFive" "I") ∈ lw_all := lw_g (lw_at lw_m2 181 rfl) rfl
theorem q447 : (Jvm.Cond.soleField "HoistRacksModel" "rackOfFive") ∈ lw_all := lw_g (lw_at lw_m2 182 rfl) rfl
theorem q448 : (Jvm.Cond.lays "HoistRacksModel" "HoistRacksModel" "begun" "I") ∈ lw_all := lw_g (lw_at lw_m2 183 rfl) rfl
theorem q449 : (Jvm.Cond.soleField "HoistRacksModel" "begun") ∈ lw_all := lw_g (lw_at lw_m2 184 rfl) rfl
theorem q450 : (Jvm.Cond.lays "HoistRacksModel" "HoistRacksModel" "mostRopes" "I") ∈ lw_all := lw_g (lw_at lw_m2 185 rfl) rfl
theorem q451 : (Jvm.Cond.soleField "HoistRacksModel" "mostRopes") ∈ lw_all := lw_g (lw_at lw_m2 186 rfl) rfl
theorem q452 : (Jvm.Cond.lays "HoistRacksModel" "HoistRacksModel" "notes" "I") ∈ lw_all := lw_g (lw_at lw_m2 187 rfl) rfl
theorem q453 : (Jvm.Cond.soleField "HoistRacksModel" "notes") ∈ lw_all := lw_g (lw_at lw_m2 188 rfl) rfl
theorem q454 : (Jvm.Cond.laysFinal "HoistRacksModel" "HoistRacksModel" "note" "[I") ∈ lw_all := lw_g (lw_at lw_m2 189 rfl) rfl
theorem q455 : (Jvm.Cond.soleField "HoistRacksModel" "note") ∈ lw_all := lw_g (lw_at lw_m2 190 rfl) rfl
theorem q456 : (Jvm.Cond.lays "HoistRacksModel" "HoistRacksModel" "depth" "I") ∈ lw_all := lw_g (lw_at lw_m2 191 rfl) rfl
theorem q457 : (Jvm.Cond.soleField "HoistRacksModel" "depth") ∈ lw_all := lw_g (lw_at lw_m2 192 rfl) rfl
theorem q458 : (Jvm.Cond.laysFinal "HoistRacksModel" "HoistRacksModel" "rack" "[I") ∈ lw_all := lw_g (lw_at lw_m2 193 rfl) rfl
theorem q459 : (Jvm.Cond.soleField "HoistRacksModel" "rack") ∈ lw_all := lw_g (lw_at lw_m2 194 rfl) rfl
theorem q460 : (Jvm.Cond.laysFinal "HoistRacksModel" "HoistRacksModel" "at" "[I") ∈ lw_all := lw_g (lw_at lw_m2 195 rfl) rfl
theorem q461 : (Jvm.Cond.soleField "HoistRacksModel" "at") ∈ lw_all := lw_g (lw_at lw_m2 196 rfl) rfl
theorem q462 : (Jvm.Cond.superclass "HoistRacksModel" "java/lang/Object") ∈ lw_all := lw_g (lw_at lw_m2 197 rfl) rfl
theorem q464 : (Jvm.Cond.instanceMethod ({ cls := "HoistRacksModel", name := "cell", desc := "(II)I" } : Jvm.MethodName)) ∈ lw_all := lw_g (lw_at lw_m2 199 rfl) rfl
theorem q465 : (Jvm.Cond.selects "HoistRacksModel" ({ cls := "HoistRacksModel", name := "cell", desc := "(II)I" } : Jvm.MethodName) ({ cls := "HoistRacksModel", name := "cell", desc := "(II)I" } : Jvm.MethodName)) ∈ lw_all := lw_g (lw_at lw_m2 200 rfl) rfl
theorem q466 : (Jvm.Cond.code ({ cls := "HoistRacksModel", name := "cell", desc := "(II)I" } : Jvm.MethodName) prog_8_method_5_code (3 : Nat) (Option.some Jvm.ClassFile.FieldType.int)) ∈ lw_all := lw_g (lw_at lw_m2 201 rfl) rfl
theorem q467 : (Jvm.Cond.methodLink "HoistRacksModel" (36 : Nat) ({ cls := "HoistRacksModel", name := "isRack", desc := "(I)Z" } : Jvm.MethodName)) ∈ lw_all := lw_g (lw_at lw_m2 202 rfl) rfl
theorem q468 : (Jvm.Cond.static ({ cls := "HoistRacksModel", name := "isRack", desc := "(I)Z" } : Jvm.MethodName)) ∈ lw_all := lw_g (lw_at lw_m2 203 rfl) rfl
theorem q469 : (Jvm.Cond.code ({ cls := "HoistRacksModel", name := "isRack", desc := "(I)Z" } : Jvm.MethodName) prog_8_method_3_code (1 : Nat) (Option.some Jvm.ClassFile.FieldType.boolean)) ∈ lw_all := lw_g (lw_at lw_m2 204 rfl) rfl
theorem q470 : (Jvm.Cond.methodLink "HoistRacksModel" (32 : Nat) ({ cls := "HoistRacksModel", name := "in", desc := "(III)Z" } : Jvm.MethodName)) ∈ lw_all := lw_g (lw_at lw_m2 205 rfl) rfl
theorem q471 : (Jvm.Cond.static ({ cls := "HoistRacksModel", name := "in", desc := "(III)Z" } : Jvm.MethodName)) ∈ lw_all := lw_g (lw_at lw_m2 206 rfl) rfl
theorem q472 : (Jvm.Cond.code ({ cls := "HoistRacksModel", name := "in", desc := "(III)Z" } : Jvm.MethodName) prog_8_method_2_code (3 : Nat) (Option.some Jvm.ClassFile.FieldType.boolean)) ∈ lw_all := lw_g (lw_at lw_m2 207 rfl) rfl
theorem q473 : (Jvm.Cond.methodLink "HoistRacksModel" (40 : Nat) ({ cls := "HoistRacksModel", name := "isCell", desc := "(I)Z" } : Jvm.MethodName)) ∈ lw_all := lw_g (lw_at lw_m2 208 rfl) rfl
theorem q474 : (Jvm.Cond.static ({ cls := "HoistRacksModel", name := "isCell", desc := "(I)Z" } : Jvm.MethodName)) ∈ lw_all := lw_g (lw_at lw_m2 209 rfl) rfl
theorem q475 : (Jvm.Cond.code ({ cls := "HoistRacksModel", name := "isCell", desc := "(I)Z" } : Jvm.MethodName) prog_8_method_4_code (1 : Nat) (Option.some Jvm.ClassFile.FieldType.boolean)) ∈ lw_all := lw_g (lw_at lw_m2 210 rfl) rfl
theorem q477 : (Jvm.Cond.instanceMethod ({ cls := "HoistRacksModel", name := "clear", desc := "(I)I" } : Jvm.MethodName)) ∈ lw_all := lw_g (lw_at lw_m2 212 rfl) rfl
theorem q478 : (Jvm.Cond.selects "HoistRacksModel" ({ cls := "HoistRacksModel", name := "clear", desc := "(I)I" } : Jvm.MethodName) ({ cls := "HoistRacksModel", name := "clear", desc := "(I)I" } : Jvm.MethodName)) ∈ lw_all := lw_g (lw_at lw_m2 213 rfl) rfl
theorem q479 : (Jvm.Cond.code ({ cls := "HoistRacksModel", name := "clear", desc := "(I)I" } : Jvm.MethodName) prog_8_method_6_code (3 : Nat) (Option.some Jvm.ClassFile.FieldType.int)) ∈ lw_all := lw_g (lw_at lw_m2 214 rfl) rfl
theorem q481 : (Jvm.Cond.instanceMethod ({ cls := "HoistRacksModel", name := "tare", desc := "(I)I" } : Jvm.MethodName)) ∈ lw_all := lw_g (lw_at lw_m2 216 rfl) rfl
theorem q482 : (Jvm.Cond.selects "HoistRacksModel" ({ cls := "HoistRacksModel", name := "tare", desc := "(I)I" } : Jvm.MethodName) ({ cls := "HoistRacksModel", name := "tare", desc := "(I)I" } : Jvm.MethodName)) ∈ lw_all := lw_g (lw_at lw_m2 217 rfl) rfl
theorem q483 : (Jvm.Cond.code ({ cls := "HoistRacksModel", name := "tare", desc := "(I)I" } : Jvm.MethodName) prog_8_method_7_code (3 : Nat) (Option.some Jvm.ClassFile.FieldType.int)) ∈ lw_all := lw_g (lw_at lw_m2 218 rfl) rfl
theorem q485 : (Jvm.Cond.instanceMethod ({ cls := "HoistRacksModel", name := "crew", desc := "(II)I" } : Jvm.MethodName)) ∈ lw_all := lw_g (lw_at lw_m2 220 rfl) rfl
theorem q486 : (Jvm.Cond.selects "HoistRacksModel" ({ cls := "HoistRacksModel", name := "crew", desc := "(II)I" } : Jvm.MethodName) ({ cls := "HoistRacksModel", name := "crew", desc := "(II)I" } : Jvm.MethodName)) ∈ lw_all := lw_g (lw_at lw_m2 221 rfl) rfl
theorem q487 : (Jvm.Cond.code ({ cls := "HoistRacksModel", name := "crew", desc := "(II)I" } : Jvm.MethodName) prog_8_method_8_code (4 : Nat) (Option.some Jvm.ClassFile.FieldType.int)) ∈ lw_all := lw_g (lw_at lw_m2 222 rfl) rfl
theorem q489 : (Jvm.Cond.instanceMethod ({ cls := "HoistRacksModel", name := "run", desc := "(II)I" } : Jvm.MethodName)) ∈ lw_all := lw_g (lw_at lw_m2 224 rfl) rfl
theorem q490 : (Jvm.Cond.selects "HoistRacksModel" ({ cls := "HoistRacksModel", name := "run", desc := "(II)I" } : Jvm.MethodName) ({ cls := "HoistRacksModel", name := "run", desc := "(II)I" } : Jvm.MethodName)) ∈ lw_all := lw_g (lw_at lw_m2 225 rfl) rfl
theorem q491 : (Jvm.Cond.code ({ cls := "HoistRacksModel", name := "run", desc := "(II)I" } : Jvm.MethodName) prog_8_method_24_code (3 : Nat) (Option.some Jvm.ClassFile.FieldType.int)) ∈ lw_all := lw_g (lw_at lw_m2 226 rfl) rfl
theorem q492 : (Jvm.Cond.methodLink "HoistRacksModel" (75 : Nat) ({ cls := "HoistRacksModel", name := "fails", desc := "(I)V" } : Jvm.MethodName)) ∈ lw_all := lw_g (lw_at lw_m2 227 rfl) rfl
theorem q493 : (Jvm.Cond.privateMethod ({ cls := "HoistRacksModel", name := "fails", desc := "(I)V" } : Jvm.MethodName)) ∈ lw_tbl := lw_at lw_m2 228 rfl
theorem q494 : (Jvm.Cond.instanceMethod ({ cls := "HoistRacksModel", name := "fails", desc := "(I)V" } : Jvm.MethodName)) ∈ lw_all := lw_g (lw_at lw_m2 229 rfl) rfl
theorem q495 : (Jvm.Cond.code ({ cls := "HoistRacksModel", name := "fails", desc := "(I)V" } : Jvm.MethodName) prog_8_method_13_code (2 : Nat) (Option.none : Option Jvm.ClassFile.FieldType)) ∈ lw_all := lw_g (lw_at lw_m2 230 rfl) rfl
theorem q496 : (Jvm.Cond.methodLink "HoistRacksModel" (88 : Nat) ({ cls := "HoistRacksModel", name := "begins", desc := "(I)V" } : Jvm.MethodName)) ∈ lw_all := lw_g (lw_at lw_m2 231 rfl) rfl
theorem q497 : (Jvm.Cond.privateMethod ({ cls := "HoistRacksModel", name := "begins", desc := "(I)V" } : Jvm.MethodName)) ∈ lw_tbl := lw_at lw_m2 232 rfl
theorem q498 : (Jvm.Cond.instanceMethod ({ cls := "HoistRacksModel", name := "begins", desc := "(I)V" } : Jvm.MethodName)) ∈ lw_all := lw_g (lw_at lw_m2 233 rfl) rfl
theorem q499 : (Jvm.Cond.code ({ cls := "HoistRacksModel", name := "begins", desc := "(I)V" } : Jvm.MethodName) prog_8_method_17_code (2 : Nat) (Option.none : Option Jvm.ClassFile.FieldType)) ∈ lw_all := lw_g (lw_at lw_m2 234 rfl) rfl
theorem q500 : (Jvm.Cond.methodLink "HoistRacksModel" (52 : Nat) ({ cls := "HoistRacksModel", name := "writes", desc := "(I)V" } : Jvm.MethodName)) ∈ lw_all := lw_g (lw_at lw_m2 235 rfl) rfl
theorem q501 : (Jvm.Cond.privateMethod ({ cls := "HoistRacksModel", name := "writes", desc := "(I)V" } : Jvm.MethodName)) ∈ lw_tbl := lw_at lw_m2 236 rfl
theorem q502 : (Jvm.Cond.instanceMethod ({ cls := "HoistRacksModel", name := "writes", desc := "(I)V" } : Jvm.MethodName)) ∈ lw_all := lw_g (lw_at lw_m2 237 rfl) rfl
theorem q503 : (Jvm.Cond.code ({ cls := "HoistRacksModel", name := "writes", desc := "(I)V" } : Jvm.MethodName) prog_8_method_9_code (2 : Nat) (Option.none : Option Jvm.ClassFile.FieldType)) ∈ lw_all := lw_g (lw_at lw_m2 238 rfl) rfl
theorem q504 : (Jvm.Cond.methodLink "HoistRacksModel" (100 : Nat) ({ cls := "HoistRacksModel", name := "finishes", desc := "()V" } : Jvm.MethodName)) ∈ lw_all := lw_g (lw_at lw_m2 239 rfl) rfl
theorem q505 : (Jvm.Cond.privateMethod ({ cls := "HoistRacksModel", name := "finishes", desc := "()V" } : Jvm.MethodName)) ∈ lw_tbl := lw_at lw_m3 0 rfl
theorem q506 : (Jvm.Cond.instanceMethod ({ cls := "HoistRacksModel", name := "finishes", desc := "()V" } : Jvm.MethodName)) ∈ lw_all := lw_g (lw_at lw_m3 1 rfl) rfl
theorem q507 : (Jvm.Cond.code ({ cls := "HoistRacksModel", name := "finishes", desc := "()V" } : Jvm.MethodName) prog_8_method_19_code (1 : Nat) (Option.none : Option Jvm.ClassFile.FieldType)) ∈ lw_all := lw_g (lw_at lw_m3 2 rfl) rfl
theorem q508 : (Jvm.Cond.methodLink "HoistRacksModel" (94 : Nat) ({ cls := "HoistRacksModel", name := "ends", desc := "()V" } : Jvm.MethodName)) ∈ lw_all := lw_g (lw_at lw_m3 3 rfl) rfl
theorem q509 : (Jvm.Cond.privateMethod ({ cls := "HoistRacksModel", name := "ends", desc := "()V" } : Jvm.MethodName)) ∈ lw_tbl := lw_at lw_m3 4 rfl
theorem q510 : (Jvm.Cond.instanceMethod ({ cls := "HoistRacksModel", name := "ends", desc := "()V" } : Jvm.MethodName)) ∈ lw_all := lw_g (lw_at lw_m3 5 rfl) rfl
theorem q511 : (Jvm.Cond.code ({ cls := "HoistRacksModel", name := "ends", desc := "()V" } : Jvm.MethodName) prog_8_method_16_code (1 : Nat) (Option.none : Option Jvm.ClassFile.FieldType)) ∈ lw_all := lw_g (lw_at lw_m3 6 rfl) rfl
theorem q512 : (Jvm.Cond.methodLink "HoistRacksModel" (82 : Nat) ({ cls := "HoistRacksModel", name := "passes", desc := "()V" } : Jvm.MethodName)) ∈ lw_all := lw_g (lw_at lw_m3 7 rfl) rfl
theorem q513 : (Jvm.Cond.privateMethod ({ cls := "HoistRacksModel", name := "passes", desc := "()V" } : Jvm.MethodName)) ∈ lw_tbl := lw_at lw_m3 8 rfl
theorem q514 : (Jvm.Cond.instanceMethod ({ cls := "HoistRacksModel", name := "passes", desc := "()V" } : Jvm.MethodName)) ∈ lw_all := lw_g (lw_at lw_m3 9 rfl) rfl
theorem q515 : (Jvm.Cond.code ({ cls := "HoistRacksModel", name := "passes", desc := "()V" } : Jvm.MethodName) prog_8_method_12_code (1 : Nat) (Option.none : Option Jvm.ClassFile.FieldType)) ∈ lw_all := lw_g (lw_at lw_m3 10 rfl) rfl
theorem q516 : (Jvm.Cond.methodLink "HoistRacksModel" (56 : Nat) ({ cls := "HoistRacksModel", name := "closes", desc := "()V" } : Jvm.MethodName)) ∈ lw_all := lw_g (lw_at lw_m3 11 rfl) rfl
theorem q517 : (Jvm.Cond.privateMethod ({ cls := "HoistRacksModel", name := "closes", desc := "()V" } : Jvm.MethodName)) ∈ lw_tbl := lw_at lw_m3 12 rfl
theorem q518 : (Jvm.Cond.instanceMethod ({ cls := "HoistRacksModel", name := "closes", desc := "()V" } : Jvm.MethodName)) ∈ lw_all := lw_g (lw_at lw_m3 13 rfl) rfl
theorem q519 : (Jvm.Cond.code ({ cls := "HoistRacksModel", name := "closes", desc := "()V" } : Jvm.MethodName) prog_8_method_11_code (1 : Nat) (Option.none : Option Jvm.ClassFile.FieldType)) ∈ lw_all := lw_g (lw_at lw_m3 14 rfl) rfl
theorem q520 : (Jvm.Cond.methodLink "HoistRacksModel" (118 : Nat) ({ cls := "HoistRacksModel", name := "doCell", desc := "()V" } : Jvm.MethodName)) ∈ lw_all := lw_g (lw_at lw_m3 15 rfl) rfl
theorem q521 : (Jvm.Cond.privateMethod ({ cls := "HoistRacksModel", name := "doCell", desc := "()V" } : Jvm.MethodName)) ∈ lw_tbl := lw_at lw_m3 16 rfl
theorem q522 : (Jvm.Cond.instanceMethod ({ cls := "HoistRacksModel", name := "doCell", desc := "()V" } : Jvm.MethodName)) ∈ lw_all := lw_g (lw_at lw_m3 17 rfl) rfl
theorem q523 : (Jvm.Cond.code ({ cls := "HoistRacksModel", name := "doCell", desc := "()V" } : Jvm.MethodName) prog_8_method_23_code (2 : Nat) (Option.none : Option Jvm.ClassFile.FieldType)) ∈ lw_all := lw_g (lw_at lw_m3 18 rfl) rfl
theorem q524 : (Jvm.Cond.methodLink "HoistRacksModel" (91 : Nat) ({ cls := "HoistRacksModel", name := "up", desc := "()V" } : Jvm.MethodName)) ∈ lw_all := lw_g (lw_at lw_m3 19 rfl) rfl
theorem q525 : (Jvm.Cond.privateMethod ({ cls := "HoistRacksModel", name := "up", desc := "()V" } : Jvm.MethodName)) ∈ lw_tbl := lw_at lw_m3 20 rfl
theorem q526 : (Jvm.Cond.instanceMethod ({ cls := "HoistRacksModel", name := "up", desc := "()V" } : Jvm.MethodName)) ∈ lw_all := lw_g (lw_at lw_m3 21 rfl) rfl
theorem q527 : (Jvm.Cond.code ({ cls := "HoistRacksModel", name := "up", desc := "()V" } : Jvm.MethodName) prog_8_method_15_code (2 : Nat) (Option.none : Option Jvm.ClassFile.FieldType)) ∈ lw_all := lw_g (lw_at lw_m3 22 rfl) rfl
theorem q528 : (Jvm.Cond.methodLink "HoistRacksModel" (78 : Nat) ({ cls := "HoistRacksModel", name := "takes", desc := "()Z" } : Jvm.MethodName)) ∈ lw_all := lw_g (lw_at lw_m3 23 rfl) rfl
theorem q529 : (Jvm.Cond.privateMethod ({ cls := "HoistRacksModel", name := "takes", desc := "()Z" } : Jvm.MethodName)) ∈ lw_tbl := lw_at lw_m3 24 rfl
theorem q530 : (Jvm.Cond.instanceMethod ({ cls := "HoistRacksModel", name := "takes", desc := "()Z" } : Jvm.MethodName)) ∈ lw_all := lw_g (lw_at lw_m3 25 rfl) rfl
theorem q531 : (Jvm.Cond.code ({ cls := "HoistRacksModel", name := "takes", desc := "()Z" } : Jvm.MethodName) prog_8_method_14_code (2 : Nat) (Option.some Jvm.ClassFile.FieldType.boolean)) ∈ lw_all := lw_g (lw_at lw_m3 26 rfl) rfl
theorem q532 : (Jvm.Cond.methodLink "HoistRacksModel" (68 : Nat) ({ cls := "HoistRacksModel", name := "cellAtHand", desc := "()I" } : Jvm.MethodName)) ∈ lw_all := lw_g (lw_at lw_m3 27 rfl) rfl
theorem q533 : (Jvm.Cond.privateMethod ({ cls := "HoistRacksModel", name := "cellAtHand", desc := "()I" } : Jvm.MethodName)) ∈ lw_tbl := lw_at lw_m3 28 rfl
theorem q534 : (Jvm.Cond.instanceMethod ({ cls := "HoistRacksModel", name := "cellAtHand", desc := "()I" } : Jvm.MethodName)) ∈ lw_all := lw_g (lw_at lw_m3 29 rfl) rfl
theorem q535 : (Jvm.Cond.code ({ cls := "HoistRacksModel", name := "cellAtHand", desc := "()I" } : Jvm.MethodName) prog_8_method_10_code (1 : Nat) (Option.some Jvm.ClassFile.FieldType.int)) ∈ lw_all := lw_g (lw_at lw_m3 30 rfl) rfl
theorem q536 : (Jvm.Cond.methodLink "HoistRacksModel" (106 : Nat) ({ cls := "HoistRacksModel", name := "lifts", desc := "(I)V" } : Jvm.MethodName)) ∈ lw_all := lw_g (lw_at lw_m3 31 rfl) rfl
theorem q537 : (Jvm.Cond.privateMethod ({ cls := "HoistRacksModel", name := "lifts", desc := "(I)V" } : Jvm.MethodName)) ∈ lw_tbl := lw_at lw_m3 32 rfl
theorem q538 : (Jvm.Cond.instanceMethod ({ cls := "HoistRacksModel", name := "lifts", desc := "(I)V" } : Jvm.MethodName)) ∈ lw_all := lw_g (lw_at lw_m3 33 rfl) rfl
theorem q539 : (Jvm.Cond.code ({ cls := "HoistRacksModel", name := "lifts", desc := "(I)V" } : Jvm.MethodName) prog_8_method_18_code (2 : Nat) (Option.none : Option Jvm.ClassFile.FieldType)) ∈ lw_all := lw_g (lw_at lw_m3 34 rfl) rfl
theorem q540 : (Jvm.Cond.methodLink "HoistRacksModel" (109 : Nat) ({ cls := "HoistRacksModel", name := "barrel", desc := "(I)V" } : Jvm.MethodName)) ∈ lw_all := lw_g (lw_at lw_m3 35 rfl) rfl
theorem q541 : (Jvm.Cond.privateMethod ({ cls := "HoistRacksModel", name := "barrel", desc := "(I)V" } : Jvm.MethodName)) ∈ lw_tbl := lw_at lw_m3 36 rfl
theorem q542 : (Jvm.Cond.instanceMethod ({ cls := "HoistRacksModel", name := "barrel", desc := "(I)V" } : Jvm.MethodName)) ∈ lw_all := lw_g (lw_at lw_m3 37 rfl) rfl
theorem q543 : (Jvm.Cond.code ({ cls := "HoistRacksModel", name := "barrel", desc := "(I)V" } : Jvm.MethodName) prog_8_method_21_code (2 : Nat) (Option.none : Option Jvm.ClassFile.FieldType)) ∈ lw_all := lw_g (lw_at lw_m3 38 rfl) rfl
theorem q544 : (Jvm.Cond.methodLink "HoistRacksModel" (112 : Nat) ({ cls := "HoistRacksModel", name := "help", desc := "(I)V" } : Jvm.MethodName)) ∈ lw_all := lw_g (lw_at lw_m3 39 rfl) rfl
theorem q545 : (Jvm.Cond.privateMethod ({ cls := "HoistRacksModel", name := "help", desc := "(I)V" } : Jvm.MethodName)) ∈ lw_tbl := lw_at lw_m3 40 rfl
theorem q546 : (Jvm.Cond.instanceMethod ({ cls := "HoistRacksModel", name := "help", desc := "(I)V" } : Jvm.MethodName)) ∈ lw_all := lw_g (lw_at lw_m3 41 rfl) rfl
theorem q547 : (Jvm.Cond.code ({ cls := "HoistRacksModel", name := "help", desc := "(I)V" } : Jvm.MethodName) prog_8_method_20_code (2 : Nat) (Option.none : Option Jvm.ClassFile.FieldType)) ∈ lw_all := lw_g (lw_at lw_m3 42 rfl) rfl
theorem q548 : (Jvm.Cond.methodLink "HoistRacksModel" (115 : Nat) ({ cls := "HoistRacksModel", name := "leaves", desc := "(I)V" } : Jvm.MethodName)) ∈ lw_all := lw_g (lw_at lw_m3 43 rfl) rfl
theorem q549 : (Jvm.Cond.privateMethod ({ cls := "HoistRacksModel", name := "leaves", desc := "(I)V" } : Jvm.MethodName)) ∈ lw_tbl := lw_at lw_m3 44 rfl
theorem q550 : (Jvm.Cond.instanceMethod ({ cls := "HoistRacksModel", name := "leaves", desc := "(I)V" } : Jvm.MethodName)) ∈ lw_all := lw_g (lw_at lw_m3 45 rfl) rfl
theorem q551 : (Jvm.Cond.code ({ cls := "HoistRacksModel", name := "leaves", desc := "(I)V" } : Jvm.MethodName) prog_8_method_22_code (2 : Nat) (Option.none : Option Jvm.ClassFile.FieldType)) ∈ lw_all := lw_g (lw_at lw_m3 46 rfl) rfl
theorem q553 : (Jvm.Cond.instanceMethod ({ cls := "HoistRacksModel", name := "told", desc := "(I)I" } : Jvm.MethodName)) ∈ lw_all := lw_g (lw_at lw_m3 48 rfl) rfl
theorem q554 : (Jvm.Cond.selects "HoistRacksModel" ({ cls := "HoistRacksModel", name := "told", desc := "(I)I" } : Jvm.MethodName) ({ cls := "HoistRacksModel", name := "told", desc := "(I)I" } : Jvm.MethodName)) ∈ lw_all := lw_g (lw_at lw_m3 49 rfl) rfl
theorem q555 : (Jvm.Cond.code ({ cls := "HoistRacksModel", name := "told", desc := "(I)I" } : Jvm.MethodName) prog_8_method_25_code (2 : Nat) (Option.some Jvm.ClassFile.FieldType.int)) ∈ lw_all := lw_g (lw_at lw_m3 50 rfl) rfl
theorem q557 : (Jvm.Cond.instanceMethod ({ cls := "HoistRacksModel", name := "note", desc := "(I)I" } : Jvm.MethodName)) ∈ lw_all := lw_g (lw_at lw_m3 52 rfl) rfl
theorem q558 : (Jvm.Cond.selects "HoistRacksModel" ({ cls := "HoistRacksModel", name := "note", desc := "(I)I" } : Jvm.MethodName) ({ cls := "HoistRacksModel", name := "note", desc := "(I)I" } : Jvm.MethodName)) ∈ lw_all := lw_g (lw_at lw_m3 53 rfl) rfl
theorem q559 : (Jvm.Cond.code ({ cls := "HoistRacksModel", name := "note", desc := "(I)I" } : Jvm.MethodName) prog_8_method_26_code (2 : Nat) (Option.some Jvm.ClassFile.FieldType.int)) ∈ lw_all := lw_g (lw_at lw_m3 54 rfl) rfl
theorem q561 : (Jvm.Cond.instanceMethod ({ cls := "HoistRacksModel", name := "held", desc := "(I)I" } : Jvm.MethodName)) ∈ lw_all := lw_g (lw_at lw_m3 56 rfl) rfl
theorem q562 : (Jvm.Cond.selects "HoistRacksModel" ({ cls := "HoistRacksModel", name := "held", desc := "(I)I" } : Jvm.MethodName) ({ cls := "HoistRacksModel", name := "held", desc := "(I)I" } : Jvm.MethodName)) ∈ lw_all := lw_g (lw_at lw_m3 57 rfl) rfl
theorem q563 : (Jvm.Cond.code ({ cls := "HoistRacksModel", name := "held", desc := "(I)I" } : Jvm.MethodName) prog_8_method_27_code (2 : Nat) (Option.some Jvm.ClassFile.FieldType.int)) ∈ lw_all := lw_g (lw_at lw_m3 58 rfl) rfl
theorem q565 : (Jvm.Cond.instanceMethod ({ cls := "HoistRacksModel", name := "cells", desc := "(I)I" } : Jvm.MethodName)) ∈ lw_all := lw_g (lw_at lw_m3 60 rfl) rfl
theorem q566 : (Jvm.Cond.selects "HoistRacksModel" ({ cls := "HoistRacksModel", name := "cells", desc := "(I)I" } : Jvm.MethodName) ({ cls := "HoistRacksModel", name := "cells", desc := "(I)I" } : Jvm.MethodName)) ∈ lw_all := lw_g (lw_at lw_m3 61 rfl) rfl
theorem q567 : (Jvm.Cond.code ({ cls := "HoistRacksModel", name := "cells", desc := "(I)I" } : Jvm.MethodName) prog_8_method_28_code (2 : Nat) (Option.some Jvm.ClassFile.FieldType.int)) ∈ lw_all := lw_g (lw_at lw_m3 62 rfl) rfl
theorem in_X2 : ∀ w ∈ wsX20, w ∈ lw_all := lw_in wsX20 [428, 430, 432, 434, 436, 438, 440, 442, 444, 446, 448, 450, 452, 454, 456, 458, 460] (by decide +kernel) (by decide +kernel)
/-! the law's own entry -/
set_option maxRecDepth 100000
abbrev cL_law : ByteArray := code
end
section
set_option maxRecDepth 100000
theorem dX0_init_0 : decode cX0_init 0 = .ok (.aload_n 0, 1) := by decide +kernel
theorem dX0_init_1 : decode cX0_init 1 = .ok (.invokespecial 1, 3) := by decide +kernel
theorem dX0_init_4 : decode cX0_init 4 = .ok (.aload_n 0, 1) := by decide +kernel
theorem dX0_init_5 : decode cX0_init 5 = .ok (.bipush 8, 2) := by decide +kernel
theorem dX0_init_7 : decode cX0_init 7 = .ok (.anewarray 9, 3) := by decide +kernel
theorem dX0_init_10 : decode cX0_init 10 = .ok (.putfield 11, 3) := by decide +kernel
theorem dX0_init_13 : decode cX0_init 13 = .ok (.aload_n 0, 1) := by decide +kernel
theorem dX0_init_14 : decode cX0_init 14 = .ok (.iconst 4, 1) := by decide +kernel
theorem dX0_init_15 : decode cX0_init 15 = .ok (.anewarray 15, 3) := by decide +kernel
theorem dX0_init_18 : decode cX0_init 18 = .ok (.putfield 17, 3) := by decide +kernel
theorem dX0_init_21 : decode cX0_init 21 = .ok (.aload_n 0, 1) := by decide +kernel
theorem dX0_init_22 : decode cX0_init 22 = .ok (.sipush 2800, 3) := by decide +kernel
theorem dX0_init_25 : decode cX0_init 25 = .ok (.newarray .int, 2) := by decide +kernel
theorem dX0_init_27 : decode cX0_init 27 = .ok (.putfield 21, 3) := by decide +kernel
theorem dX0_init_30 : decode cX0_init 30 = .ok (.aload_n 0, 1) := by decide +kernel
theorem dX0_init_31 : decode cX0_init 31 = .ok (.iconst (-1), 1) := by decide +kernel
theorem dX0_init_32 : decode cX0_init 32 = .ok (.putfield 25, 3) := by decide +kernel
theorem dX0_init_35 : decode cX0_init 35 = .ok (.iconst 0, 1) := by decide +kernel
theorem dX0_init_36 : decode cX0_init 36 = .ok (.istore_n 1, 1) := by decide +kernel
theorem dX0_init_37 : decode cX0_init 37 = .ok (.iload_n 1, 1) := by decide +kernel
theorem dX0_init_38 : decode cX0_init 38 = .ok (.bipush 8, 2) := by decide +kernel
theorem dX0_init_40 : decode cX0_init 40 = .ok (.if_icmp .ge 22, 3) := by decide +kernel
theorem dX0_init_43 : decode cX0_init 43 = .ok (.aload_n 0, 1) := by decide +kernel
theorem dX0_init_44 : decode cX0_init 44 = .ok (.getfield 11, 3) := by decide +kernel
theorem dX0_init_47 : decode cX0_init 47 = .ok (.iload_n 1, 1) := by decide +kernel
theorem dX0_init_48 : decode cX0_init 48 = .ok (.new 9, 3) := by decide +kernel
theorem dX0_init_51 : decode cX0_init 51 = .ok (.dup, 1) := by decide +kernel
theorem dX0_init_52 : decode cX0_init 52 = .ok (.invokespecial 29, 3) := by decide +kernel
theorem dX0_init_55 : decode cX0_init 55 = .ok (.aastore, 1) := by decide +kernel
theorem dX0_init_56 : decode cX0_init 56 = .ok (.iinc 1 1, 3) := by decide +kernel
theorem dX0_init_59 : decode cX0_init 59 = .ok (.goto (-22), 3) := by decide +kernel
theorem dX0_init_62 : decode cX0_init 62 = .ok (.return_, 1) := by decide +kernel
theorem dX0_cell_0 : decode cX0_cell 0 = .ok (.iload_n 1, 1) := by decide +kernel
theorem dX0_cell_1 : decode cX0_cell 1 = .ok (.invokestatic 34, 3) := by decide +kernel
theorem dX0_cell_4 : decode cX0_cell 4 = .ok (.ifCond .ne 6, 3) := by decide +kernel
theorem dX0_cell_7 : decode cX0_cell 7 = .ok (.bipush (-101), 2) := by decide +kernel
theorem dX0_cell_9 : decode cX0_cell 9 = .ok (.ireturn, 1) := by decide +kernel
theorem dX0_cell_10 : decode cX0_cell 10 = .ok (.iload_n 2, 1) := by decide +kernel
theorem dX0_cell_11 : decode cX0_cell 11 = .ok (.iconst 1, 1) := by decide +kernel
theorem dX0_cell_12 : decode cX0_cell 12 = .ok (.sipush 999, 3) := by decide +kernel
theorem dX0_cell_15 : decode cX0_cell 15 = .ok (.invokestatic 30, 3) := by decide +kernel
theorem dX0_cell_18 : decode cX0_cell 18 = .ok (.ifCond .ne 49, 3) := by decide +kernel
theorem dX0_cell_21 : decode cX0_cell 21 = .ok (.iload_n 2, 1) := by decide +kernel
theorem dX0_cell_22 : decode cX0_cell 22 = .ok (.bipush (-4), 2) := by decide +kernel
theorem dX0_cell_24 : decode cX0_cell 24 = .ok (.iconst (-1), 1) := by decide +kernel
theorem dX0_cell_25 : decode cX0_cell 25 = .ok (.invokestatic 30, 3) := by decide +kernel
theorem dX0_cell_28 : decode cX0_cell 28 = .ok (.ifCond .ne 39, 3) := by decide +kernel
theorem dX0_cell_31 : decode cX0_cell 31 = .ok (.iload_n 2, 1) := by decide +kernel
theorem dX0_cell_32 : decode cX0_cell 32 = .ok (.bipush (-15), 2) := by decide +kernel
theorem dX0_cell_34 : decode cX0_cell 34 = .ok (.bipush (-10), 2) := by decide +kernel
theorem dX0_cell_36 : decode cX0_cell 36 = .ok (.invokestatic 30, 3) := by decide +kernel
theorem dX0_cell_39 : decode cX0_cell 39 = .ok (.ifCond .ne 28, 3) := by decide +kernel
theorem dX0_cell_42 : decode cX0_cell 42 = .ok (.iload_n 2, 1) := by decide +kernel
theorem dX0_cell_43 : decode cX0_cell 43 = .ok (.sipush 1000, 3) := by decide +kernel
theorem dX0_cell_46 : decode cX0_cell 46 = .ok (.if_icmp .lt 25, 3) := by decide +kernel
theorem dX0_cell_49 : decode cX0_cell 49 = .ok (.iload_n 2, 1) := by decide +kernel
theorem dX0_cell_50 : decode cX0_cell 50 = .ok (.sipush 4000, 3) := by decide +kernel
theorem dX0_cell_53 : decode cX0_cell 53 = .ok (.if_icmp .ge 18, 3) := by decide +kernel
theorem dX0_cell_56 : decode cX0_cell 56 = .ok (.iload_n 2, 1) := by decide +kernel
theorem dX0_cell_57 : decode cX0_cell 57 = .ok (.sipush 1000, 3) := by decide +kernel
theorem dX0_cell_60 : decode cX0_cell 60 = .ok (.irem, 1) := by decide +kernel
theorem dX0_cell_61 : decode cX0_cell 61 = .ok (.invokestatic 34, 3) := by decide +kernel
theorem dX0_cell_64 : decode cX0_cell 64 = .ok (.ifCond .eq 7, 3) := by decide +kernel
theorem dX0_cell_67 : decode cX0_cell 67 = .ok (.iconst 1, 1) := by decide +kernel
theorem dX0_cell_68 : decode cX0_cell 68 = .ok (.goto 4, 3) := by decide +kernel
theorem dX0_cell_71 : decode cX0_cell 71 = .ok (.iconst 0, 1) := by decide +kernel
theorem dX0_cell_72 : decode cX0_cell 72 = .ok (.istore_n 3, 1) := by decide +kernel
theorem dX0_cell_73 : decode cX0_cell 73 = .ok (.iload_n 3, 1) := by decide +kernel
theorem dX0_cell_74 : decode cX0_cell 74 = .ok (.ifCond .ne 6, 3) := by decide +kernel
theorem dX0_cell_77 : decode cX0_cell 77 = .ok (.bipush (-102), 2) := by decide +kernel
theorem dX0_cell_79 : decode cX0_cell 79 = .ok (.ireturn, 1) := by decide +kernel
theorem dX0_cell_80 : decode cX0_cell 80 = .ok (.aload_n 0, 1) := by decide +kernel
theorem dX0_cell_81 : decode cX0_cell 81 = .ok (.getfield 11, 3) := by decide +kernel
theorem dX0_cell_84 : decode cX0_cell 84 = .ok (.iload_n 1, 1) := by decide +kernel
theorem dX0_cell_85 : decode cX0_cell 85 = .ok (.aaload, 1) := by decide +kernel
theorem dX0_cell_86 : decode cX0_cell 86 = .ok (.astore 4, 2) := by decide +kernel
theorem dX0_cell_88 : decode cX0_cell 88 = .ok (.aload 4, 2) := by decide +kernel
theorem dX0_cell_90 : decode cX0_cell 90 = .ok (.getfield 38, 3) := by decide +kernel
theorem dX0_cell_93 : decode cX0_cell 93 = .ok (.bipush 12, 2) := by decide +kernel
theorem dX0_cell_95 : decode cX0_cell 95 = .ok (.if_icmp .ne 6, 3) := by decide +kernel
theorem dX0_cell_98 : decode cX0_cell 98 = .ok (.bipush (-103), 2) := by decide +kernel
theorem dX0_cell_100 : decode cX0_cell 100 = .ok (.ireturn, 1) := by decide +kernel
theorem dX0_cell_101 : decode cX0_cell 101 = .ok (.aload 4, 2) := by decide +kernel
theorem dX0_cell_103 : decode cX0_cell 103 = .ok (.getfield 41, 3) := by decide +kernel
theorem dX0_cell_106 : decode cX0_cell 106 = .ok (.aload 4, 2) := by decide +kernel
theorem dX0_cell_108 : decode cX0_cell 108 = .ok (.getfield 38, 3) := by decide +kernel
theorem dX0_cell_111 : decode cX0_cell 111 = .ok (.iload_n 2, 1) := by decide +kernel
theorem dX0_cell_112 : decode cX0_cell 112 = .ok (.iastore, 1) := by decide +kernel
theorem dX0_cell_113 : decode cX0_cell 113 = .ok (.aload 4, 2) := by decide +kernel
theorem dX0_cell_115 : decode cX0_cell 115 = .ok (.dup, 1) := by decide +kernel
theorem dX0_cell_116 : decode cX0_cell 116 = .ok (.getfield 38, 3) := by decide +kernel
theorem dX0_cell_119 : decode cX0_cell 119 = .ok (.iconst 1, 1) := by decide +kernel
theorem dX0_cell_120 : decode cX0_cell 120 = .ok (.iadd, 1) := by decide +kernel
theorem dX0_cell_121 : decode cX0_cell 121 = .ok (.putfield 38, 3) := by decide +kernel
theorem dX0_cell_124 : decode cX0_cell 124 = .ok (.aload 4, 2) := by decide +kernel
theorem dX0_cell_126 : decode cX0_cell 126 = .ok (.getfield 38, 3) := by decide +kernel
theorem dX0_cell_129 : decode cX0_cell 129 = .ok (.iconst 1, 1) := by decide +kernel
theorem dX0_cell_130 : decode cX0_cell 130 = .ok (.isub, 1) := by decide +kernel
theorem dX0_cell_131 : decode cX0_cell 131 = .ok (.ireturn, 1) := by decide +kernel
theorem dX0_isRack_0 : decode cX0_isRack 0 = .ok (.iload_n 0, 1) := by decide +kernel
theorem dX0_isRack_1 : decode cX0_isRack 1 = .ok (.iconst 0, 1) := by decide +kernel
theorem dX0_isRack_2 : decode cX0_isRack 2 = .ok (.bipush 7, 2) := by decide +kernel
theorem dX0_isRack_4 : decode cX0_isRack 4 = .ok (.invokestatic 30, 3) := by decide +kernel
theorem dX0_isRack_7 : decode cX0_isRack 7 = .ok (.ireturn, 1) := by decide +kernel
theorem dX0_in_0 : decode cX0_in 0 = .ok (.iload_n 0, 1) := by decide +kernel
theorem dX0_in_1 : decode cX0_in 1 = .ok (.iload_n 1, 1) := by decide +kernel
theorem dX0_in_2 : decode cX0_in 2 = .ok (.if_icmp .lt 12, 3) := by decide +kernel
theorem dX0_in_5 : decode cX0_in 5 = .ok (.iload_n 0, 1) := by decide +kernel
theorem dX0_in_6 : decode cX0_in 6 = .ok (.iload_n 2, 1) := by decide +kernel
theorem dX0_in_7 : decode cX0_in 7 = .ok (.if_icmp .gt 7, 3) := by decide +kernel
theorem dX0_in_10 : decode cX0_in 10 = .ok (.iconst 1, 1) := by decide +kernel
theorem dX0_in_11 : decode cX0_in 11 = .ok (.goto 4, 3) := by decide +kernel
theorem dX0_in_14 : decode cX0_in 14 = .ok (.iconst 0, 1) := by decide +kernel
theorem dX0_in_15 : decode cX0_in 15 = .ok (.ireturn, 1) := by decide +kernel
theorem dX0_clear_0 : decode cX0_clear 0 = .ok (.iload_n 1, 1) := by decide +kernel
theorem dX0_clear_1 : decode cX0_clear 1 = .ok (.invokestatic 34, 3) := by decide +kernel
theorem dX0_clear_4 : decode cX0_clear 4 = .ok (.ifCond .ne 6, 3) := by decide +kernel
theorem dX0_clear_7 : decode cX0_clear 7 = .ok (.bipush (-101), 2) := by decide +kernel
theorem dX0_clear_9 : decode cX0_clear 9 = .ok (.ireturn, 1) := by decide +kernel
theorem dX0_clear_10 : decode cX0_clear 10 = .ok (.aload_n 0, 1) := by decide +kernel
theorem dX0_clear_11 : decode cX0_clear 11 = .ok (.getfield 11, 3) := by decide +kernel
theorem dX0_clear_14 : decode cX0_clear 14 = .ok (.iload_n 1, 1) := by decide +kernel
theorem dX0_clear_15 : decode cX0_clear 15 = .ok (.aaload, 1) := by decide +kernel
theorem dX0_clear_16 : decode cX0_clear 16 = .ok (.getfield 38, 3) := by decide +kernel
theorem dX0_clear_19 : decode cX0_clear 19 = .ok (.istore_n 2, 1) := by decide +kernel
theorem dX0_clear_20 : decode cX0_clear 20 = .ok (.aload_n 0, 1) := by decide +kernel
theorem dX0_clear_21 : decode cX0_clear 21 = .ok (.getfield 11, 3) := by decide +kernel
theorem dX0_clear_24 : decode cX0_clear 24 = .ok (.iload_n 1, 1) := by decide +kernel
theorem dX0_clear_25 : decode cX0_clear 25 = .ok (.aaload, 1) := by decide +kernel
theorem dX0_clear_26 : decode cX0_clear 26 = .ok (.iconst 0, 1) := by decide +kernel
theorem dX0_clear_27 : decode cX0_clear 27 = .ok (.putfield 38, 3) := by decide +kernel
theorem dX0_clear_30 : decode cX0_clear 30 = .ok (.iload_n 2, 1) := by decide +kernel
theorem dX0_clear_31 : decode cX0_clear 31 = .ok (.ireturn, 1) := by decide +kernel
theorem dX0_tare_0 : decode cX0_tare 0 = .ok (.iload_n 1, 1) := by decide +kernel
theorem dX0_tare_1 : decode cX0_tare 1 = .ok (.iconst 0, 1) := by decide +kernel
theorem dX0_tare_2 : decode cX0_tare 2 = .ok (.sipush 999, 3) := by decide +kernel
theorem dX0_tare_5 : decode cX0_tare 5 = .ok (.invokestatic 30, 3) := by decide +kernel
theorem dX0_tare_8 : decode cX0_tare 8 = .ok (.ifCond .ne 6, 3) := by decide +kernel
theorem dX0_tare_11 : decode cX0_tare 11 = .ok (.bipush (-102), 2) := by decide +kernel
theorem dX0_tare_13 : decode cX0_tare 13 = .ok (.ireturn, 1) := by decide +kernel
theorem dX0_tare_14 : decode cX0_tare 14 = .ok (.aload_n 0, 1) := by decide +kernel
theorem dX0_tare_15 : decode cX0_tare 15 = .ok (.getfield 44, 3) := by decide +kernel
theorem dX0_tare_18 : decode cX0_tare 18 = .ok (.istore_n 2, 1) := by decide +kernel
theorem dX0_tare_19 : decode cX0_tare 19 = .ok (.aload_n 0, 1) := by decide +kernel
theorem dX0_tare_20 : decode cX0_tare 20 = .ok (.iload_n 1, 1) := by decide +kernel
theorem dX0_tare_21 : decode cX0_tare 21 = .ok (.putfield 44, 3) := by decide +kernel
theorem dX0_tare_24 : decode cX0_tare 24 = .ok (.iload_n 2, 1) := by decide +kernel
theorem dX0_tare_25 : decode cX0_tare 25 = .ok (.ireturn, 1) := by decide +kernel
theorem dX0_crew_0 : decode cX0_crew 0 = .ok (.iload_n 1, 1) := by decide +kernel
theorem dX0_crew_1 : decode cX0_crew 1 = .ok (.iconst 0, 1) := by decide +kernel
theorem dX0_crew_2 : decode cX0_crew 2 = .ok (.iconst 3, 1) := by decide +kernel
theorem dX0_crew_3 : decode cX0_crew 3 = .ok (.invokestatic 30, 3) := by decide +kernel
theorem dX0_crew_6 : decode cX0_crew 6 = .ok (.ifCond .ne 6, 3) := by decide +kernel
theorem dX0_crew_9 : decode cX0_crew 9 = .ok (.bipush (-101), 2) := by decide +kernel
theorem dX0_crew_11 : decode cX0_crew 11 = .ok (.ireturn, 1) := by decide +kernel
theorem dX0_crew_12 : decode cX0_crew 12 = .ok (.iload_n 2, 1) := by decide +kernel
theorem dX0_crew_13 : decode cX0_crew 13 = .ok (.iconst 0, 1) := by decide +kernel
theorem dX0_crew_14 : decode cX0_crew 14 = .ok (.bipush 50, 2) := by decide +kernel
theorem dX0_crew_16 : decode cX0_crew 16 = .ok (.invokestatic 30, 3) := by decide +kernel
theorem dX0_crew_19 : decode cX0_crew 19 = .ok (.ifCond .ne 6, 3) := by decide +kernel
theorem dX0_crew_22 : decode cX0_crew 22 = .ok (.bipush (-102), 2) := by decide +kernel
theorem dX0_crew_24 : decode cX0_crew 24 = .ok (.ireturn, 1) := by decide +kernel
theorem dX0_crew_25 : decode cX0_crew 25 = .ok (.aload_n 0, 1) := by decide +kernel
theorem dX0_crew_26 : decode cX0_crew 26 = .ok (.getfield 17, 3) := by decide +kernel
theorem dX0_crew_29 : decode cX0_crew 29 = .ok (.iload_n 1, 1) := by decide +kernel
theorem dX0_crew_30 : decode cX0_crew 30 = .ok (.aaload, 1) := by decide +kernel
theorem dX0_crew_31 : decode cX0_crew 31 = .ok (.ifnonnull 7, 3) := by decide +kernel
theorem dX0_crew_34 : decode cX0_crew 34 = .ok (.iconst 0, 1) := by decide +kernel
theorem dX0_crew_35 : decode cX0_crew 35 = .ok (.goto 12, 3) := by decide +kernel
theorem dX0_crew_38 : decode cX0_crew 38 = .ok (.aload_n 0, 1) := by decide +kernel
theorem dX0_crew_39 : decode cX0_crew 39 = .ok (.getfield 17, 3) := by decide +kernel
theorem dX0_crew_42 : decode cX0_crew 42 = .ok (.iload_n 1, 1) := by decide +kernel
theorem dX0_crew_43 : decode cX0_crew 43 = .ok (.aaload, 1) := by decide +kernel
theorem dX0_crew_44 : decode cX0_crew 44 = .ok (.getfield 47, 3) := by decide +kernel
theorem dX0_crew_47 : decode cX0_crew 47 = .ok (.istore_n 3, 1) := by decide +kernel
theorem dX0_crew_48 : decode cX0_crew 48 = .ok (.aload_n 0, 1) := by decide +kernel
theorem dX0_crew_49 : decode cX0_crew 49 = .ok (.getfield 17, 3) := by decide +kernel
theorem dX0_crew_52 : decode cX0_crew 52 = .ok (.iload_n 1, 1) := by decide +kernel
theorem dX0_crew_53 : decode cX0_crew 53 = .ok (.iload_n 2, 1) := by decide +kernel
theorem dX0_crew_54 : decode cX0_crew 54 = .ok (.ifCond .ne 7, 3) := by decide +kernel
theorem dX0_crew_57 : decode cX0_crew 57 = .ok (.aconst_null, 1) := by decide +kernel
theorem dX0_crew_58 : decode cX0_crew 58 = .ok (.goto 11, 3) := by decide +kernel
theorem dX0_crew_61 : decode cX0_crew 61 = .ok (.new 15, 3) := by decide +kernel
theorem dX0_crew_64 : decode cX0_crew 64 = .ok (.dup, 1) := by decide +kernel
theorem dX0_crew_65 : decode cX0_crew 65 = .ok (.iload_n 2, 1) := by decide +kernel
theorem dX0_crew_66 : decode cX0_crew 66 = .ok (.invokespecial 50, 3) := by decide +kernel
theorem dX0_crew_69 : decode cX0_crew 69 = .ok (.aastore, 1) := by decide +kernel
theorem dX0_crew_70 : decode cX0_crew 70 = .ok (.iload_n 3, 1) := by decide +kernel
theorem dX0_crew_71 : decode cX0_crew 71 = .ok (.ireturn, 1) := by decide +kernel
theorem dX0_run_0 : decode cX0_run 0 = .ok (.iload_n 1, 1) := by decide +kernel
theorem dX0_run_1 : decode cX0_run 1 = .ok (.invokestatic 34, 3) := by decide +kernel
theorem dX0_run_4 : decode cX0_run 4 = .ok (.ifCond .ne 6, 3) := by decide +kernel
theorem dX0_run_7 : decode cX0_run 7 = .ok (.bipush (-101), 2) := by decide +kernel
theorem dX0_run_9 : decode cX0_run 9 = .ok (.ireturn, 1) := by decide +kernel
theorem dX0_run_10 : decode cX0_run 10 = .ok (.aload_n 0, 1) := by decide +kernel
theorem dX0_run_11 : decode cX0_run 11 = .ok (.iload_n 2, 1) := by decide +kernel
theorem dX0_run_12 : decode cX0_run 12 = .ok (.putfield 101, 3) := by decide +kernel
theorem dX0_run_15 : decode cX0_run 15 = .ok (.aload_n 0, 1) := by decide +kernel
theorem dX0_run_16 : decode cX0_run 16 = .ok (.iconst 0, 1) := by decide +kernel
theorem dX0_run_17 : decode cX0_run 17 = .ok (.putfield 83, 3) := by decide +kernel
theorem dX0_run_20 : decode cX0_run 20 = .ok (.aload_n 0, 1) := by decide +kernel
theorem dX0_run_21 : decode cX0_run 21 = .ok (.iconst 0, 1) := by decide +kernel
theorem dX0_run_22 : decode cX0_run 22 = .ok (.putfield 86, 3) := by decide +kernel
theorem dX0_run_25 : decode cX0_run 25 = .ok (.aload_n 0, 1) := by decide +kernel
theorem dX0_run_26 : decode cX0_run 26 = .ok (.iconst 0, 1) := by decide +kernel
theorem dX0_run_27 : decode cX0_run 27 = .ok (.putfield 65, 3) := by decide +kernel
theorem dX0_run_30 : decode cX0_run 30 = .ok (.aload_n 0, 1) := by decide +kernel
theorem dX0_run_31 : decode cX0_run 31 = .ok (.iconst 0, 1) := by decide +kernel
theorem dX0_run_32 : decode cX0_run 32 = .ok (.putfield 53, 3) := by decide +kernel
theorem dX0_run_35 : decode cX0_run 35 = .ok (.aload_n 0, 1) := by decide +kernel
theorem dX0_run_36 : decode cX0_run 36 = .ok (.iconst 0, 1) := by decide +kernel
theorem dX0_run_37 : decode cX0_run 37 = .ok (.invokevirtual 124, 3) := by decide +kernel
theorem dX0_run_40 : decode cX0_run 40 = .ok (.aload_n 0, 1) := by decide +kernel
theorem dX0_run_41 : decode cX0_run 41 = .ok (.iconst 0, 1) := by decide +kernel
theorem dX0_run_42 : decode cX0_run 42 = .ok (.putfield 136, 3) := by decide +kernel
theorem dX0_run_45 : decode cX0_run 45 = .ok (.aload_n 0, 1) := by decide +kernel
theorem dX0_run_46 : decode cX0_run 46 = .ok (.iconst (-1), 1) := by decide +kernel
theorem dX0_run_47 : decode cX0_run 47 = .ok (.putfield 25, 3) := by decide +kernel
theorem dX0_run_50 : decode cX0_run 50 = .ok (.aload_n 0, 1) := by decide +kernel
theorem dX0_run_51 : decode cX0_run 51 = .ok (.iload_n 1, 1) := by decide +kernel
theorem dX0_run_52 : decode cX0_run 52 = .ok (.invokevirtual 98, 3) := by decide +kernel
theorem dX0_run_55 : decode cX0_run 55 = .ok (.goto 58, 3) := by decide +kernel
theorem dX0_run_58 : decode cX0_run 58 = .ok (.astore_n 3, 1) := by decide +kernel
theorem dX0_run_59 : decode cX0_run 59 = .ok (.aload_n 0, 1) := by decide +kernel
theorem dX0_run_60 : decode cX0_run 60 = .ok (.aload_n 3, 1) := by decide +kernel
theorem dX0_run_61 : decode cX0_run 61 = .ok (.getfield 115, 3) := by decide +kernel
theorem dX0_run_64 : decode cX0_run 64 = .ok (.invokevirtual 124, 3) := by decide +kernel
theorem dX0_run_67 : decode cX0_run 67 = .ok (.goto 46, 3) := by decide +kernel
theorem dX0_run_70 : decode cX0_run 70 = .ok (.astore_n 3, 1) := by decide +kernel
theorem dX0_run_71 : decode cX0_run 71 = .ok (.aload_n 0, 1) := by decide +kernel
theorem dX0_run_72 : decode cX0_run 72 = .ok (.aload_n 3, 1) := by decide +kernel
theorem dX0_run_73 : decode cX0_run 73 = .ok (.invokevirtual 139, 3) := by decide +kernel
theorem dX0_run_76 : decode cX0_run 76 = .ok (.goto 37, 3) := by decide +kernel
theorem dX0_run_79 : decode cX0_run 79 = .ok (.astore_n 3, 1) := by decide +kernel
theorem dX0_run_80 : decode cX0_run 80 = .ok (.aload_n 0, 1) := by decide +kernel
theorem dX0_run_81 : decode cX0_run 81 = .ok (.bipush 7, 2) := by decide +kernel
theorem dX0_run_83 : decode cX0_run 83 = .ok (.invokevirtual 124, 3) := by decide +kernel
theorem dX0_run_86 : decode cX0_run 86 = .ok (.goto 27, 3) := by decide +kernel
theorem dX0_run_89 : decode cX0_run 89 = .ok (.astore_n 3, 1) := by decide +kernel
theorem dX0_run_90 : decode cX0_run 90 = .ok (.aload_n 0, 1) := by decide +kernel
theorem dX0_run_91 : decode cX0_run 91 = .ok (.iconst 2, 1) := by decide +kernel
theorem dX0_run_92 : decode cX0_run 92 = .ok (.invokevirtual 124, 3) := by decide +kernel
theorem dX0_run_95 : decode cX0_run 95 = .ok (.goto 18, 3) := by decide +kernel
theorem dX0_run_98 : decode cX0_run 98 = .ok (.astore_n 3, 1) := by decide +kernel
theorem dX0_run_99 : decode cX0_run 99 = .ok (.aload_n 0, 1) := by decide +kernel
theorem dX0_run_100 : decode cX0_run 100 = .ok (.iconst 3, 1) := by decide +kernel
theorem dX0_run_101 : decode cX0_run 101 = .ok (.invokevirtual 124, 3) := by decide +kernel
theorem dX0_run_104 : decode cX0_run 104 = .ok (.goto 9, 3) := by decide +kernel
theorem dX0_run_107 : decode cX0_run 107 = .ok (.astore_n 3, 1) := by decide +kernel
theorem dX0_run_108 : decode cX0_run 108 = .ok (.aload_n 0, 1) := by decide +kernel
theorem dX0_run_109 : decode cX0_run 109 = .ok (.iconst 4, 1) := by decide +kernel
theorem dX0_run_110 : decode cX0_run 110 = .ok (.invokevirtual 124, 3) := by decide +kernel
theorem dX0_run_113 : decode cX0_run 113 = .ok (.aload_n 0, 1) := by decide +kernel
theorem dX0_run_114 : decode cX0_run 114 = .ok (.getfield 118, 3) := by decide +kernel
theorem dX0_run_117 : decode cX0_run 117 = .ok (.ifCond .ne 7, 3) := by decide +kernel
theorem dX0_run_120 : decode cX0_run 120 = .ok (.iconst 1, 1) := by decide +kernel
theorem dX0_run_121 : decode cX0_run 121 = .ok (.goto 4, 3) := by decide +kernel
theorem dX0_run_124 : decode cX0_run 124 = .ok (.iconst 0, 1) := by decide +kernel
theorem dX0_run_125 : decode cX0_run 125 = .ok (.ireturn, 1) := by decide +kernel
theorem dX0_failed_0 : decode cX0_failed 0 = .ok (.aload_n 0, 1) := by decide +kernel
theorem dX0_failed_1 : decode cX0_failed 1 = .ok (.iload_n 1, 1) := by decide +kernel
theorem dX0_failed_2 : decode cX0_failed 2 = .ok (.putfield 118, 3) := by decide +kernel
theorem dX0_failed_5 : decode cX0_failed 5 = .ok (.aload_n 0, 1) := by decide +kernel
theorem dX0_failed_6 : decode cX0_failed 6 = .ok (.iload_n 1, 1) := by decide +kernel
theorem dX0_failed_7 : decode cX0_failed 7 = .ok (.putfield 121, 3) := by decide +kernel
theorem dX0_failed_10 : decode cX0_failed 10 = .ok (.return_, 1) := by decide +kernel
theorem dX0_lift_0 : decode cX0_lift 0 = .ok (.aload_n 0, 1) := by decide +kernel
theorem dX0_lift_1 : decode cX0_lift 1 = .ok (.getfield 56, 3) := by decide +kernel
theorem dX0_lift_4 : decode cX0_lift 4 = .ok (.bipush 6, 2) := by decide +kernel
theorem dX0_lift_6 : decode cX0_lift 6 = .ok (.if_icmp .ne 13, 3) := by decide +kernel
theorem dX0_lift_9 : decode cX0_lift 9 = .ok (.new 59, 3) := by decide +kernel
theorem dX0_lift_12 : decode cX0_lift 12 = .ok (.dup, 1) := by decide +kernel
theorem dX0_lift_13 : decode cX0_lift 13 = .ok (.bipush 6, 2) := by decide +kernel
theorem dX0_lift_15 : decode cX0_lift 15 = .ok (.invokespecial 61, 3) := by decide +kernel
theorem dX0_lift_18 : decode cX0_lift 18 = .ok (.athrow, 1) := by decide +kernel
theorem dX0_lift_19 : decode cX0_lift 19 = .ok (.aload_n 0, 1) := by decide +kernel
theorem dX0_lift_20 : decode cX0_lift 20 = .ok (.getfield 11, 3) := by decide +kernel
theorem dX0_lift_23 : decode cX0_lift 23 = .ok (.iload_n 1, 1) := by decide +kernel
theorem dX0_lift_24 : decode cX0_lift 24 = .ok (.aaload, 1) := by decide +kernel
theorem dX0_lift_25 : decode cX0_lift 25 = .ok (.astore_n 2, 1) := by decide +kernel
theorem dX0_lift_26 : decode cX0_lift 26 = .ok (.aload_n 0, 1) := by decide +kernel
theorem dX0_lift_27 : decode cX0_lift 27 = .ok (.dup, 1) := by decide +kernel
theorem dX0_lift_28 : decode cX0_lift 28 = .ok (.getfield 56, 3) := by decide +kernel
theorem dX0_lift_31 : decode cX0_lift 31 = .ok (.iconst 1, 1) := by decide +kernel
theorem dX0_lift_32 : decode cX0_lift 32 = .ok (.iadd, 1) := by decide +kernel
theorem dX0_lift_33 : decode cX0_lift 33 = .ok (.putfield 56, 3) := by decide +kernel
theorem dX0_lift_36 : decode cX0_lift 36 = .ok (.aload_n 0, 1) := by decide +kernel
theorem dX0_lift_37 : decode cX0_lift 37 = .ok (.dup, 1) := by decide +kernel
theorem dX0_lift_38 : decode cX0_lift 38 = .ok (.getfield 62, 3) := by decide +kernel
theorem dX0_lift_41 : decode cX0_lift 41 = .ok (.iconst 1, 1) := by decide +kernel
theorem dX0_lift_42 : decode cX0_lift 42 = .ok (.iadd, 1) := by decide +kernel
theorem dX0_lift_43 : decode cX0_lift 43 = .ok (.putfield 62, 3) := by decide +kernel
theorem dX0_lift_46 : decode cX0_lift 46 = .ok (.aload_n 0, 1) := by decide +kernel
theorem dX0_lift_47 : decode cX0_lift 47 = .ok (.aload_n 0, 1) := by decide +kernel
theorem dX0_lift_48 : decode cX0_lift 48 = .ok (.getfield 62, 3) := by decide +kernel
theorem dX0_lift_51 : decode cX0_lift 51 = .ok (.aload_n 0, 1) := by decide +kernel
theorem dX0_lift_52 : decode cX0_lift 52 = .ok (.getfield 65, 3) := by decide +kernel
theorem dX0_lift_55 : decode cX0_lift 55 = .ok (.if_icmp .le 10, 3) := by decide +kernel
theorem dX0_lift_58 : decode cX0_lift 58 = .ok (.aload_n 0, 1) := by decide +kernel
theorem dX0_lift_59 : decode cX0_lift 59 = .ok (.getfield 62, 3) := by decide +kernel
theorem dX0_lift_62 : decode cX0_lift 62 = .ok (.goto 7, 3) := by decide +kernel
theorem dX0_lift_65 : decode cX0_lift 65 = .ok (.aload_n 0, 1) := by decide +kernel
theorem dX0_lift_66 : decode cX0_lift 66 = .ok (.getfield 65, 3) := by decide +kernel
theorem dX0_lift_69 : decode cX0_lift 69 = .ok (.putfield 65, 3) := by decide +kernel
theorem dX0_lift_72 : decode cX0_lift 72 = .ok (.aload_n 0, 1) := by decide +kernel
theorem dX0_lift_73 : decode cX0_lift 73 = .ok (.iconst 1, 1) := by decide +kernel
theorem dX0_lift_74 : decode cX0_lift 74 = .ok (.invokevirtual 68, 3) := by decide +kernel
theorem dX0_lift_77 : decode cX0_lift 77 = .ok (.iconst 0, 1) := by decide +kernel
theorem dX0_lift_78 : decode cX0_lift 78 = .ok (.istore_n 3, 1) := by decide +kernel
theorem dX0_lift_79 : decode cX0_lift 79 = .ok (.iload_n 3, 1) := by decide +kernel
theorem dX0_lift_80 : decode cX0_lift 80 = .ok (.aload_n 2, 1) := by decide +kernel
theorem dX0_lift_81 : decode cX0_lift 81 = .ok (.getfield 38, 3) := by decide +kernel
theorem dX0_lift_84 : decode cX0_lift 84 = .ok (.if_icmp .ge 291, 3) := by decide +kernel
theorem dX0_lift_87 : decode cX0_lift 87 = .ok (.aload_n 2, 1) := by decide +kernel
theorem dX0_lift_88 : decode cX0_lift 88 = .ok (.getfield 41, 3) := by decide +kernel
theorem dX0_lift_91 : decode cX0_lift 91 = .ok (.iload_n 3, 1) := by decide +kernel
theorem dX0_lift_92 : decode cX0_lift 92 = .ok (.iaload, 1) := by decide +kernel
theorem dX0_lift_93 : decode cX0_lift 93 = .ok (.istore 4, 2) := by decide +kernel
theorem dX0_lift_95 : decode cX0_lift 95 = .ok (.aload_n 0, 1) := by decide +kernel
theorem dX0_lift_96 : decode cX0_lift 96 = .ok (.dup, 1) := by decide +kernel
theorem dX0_lift_97 : decode cX0_lift 97 = .ok (.getfield 71, 3) := by decide +kernel
theorem dX0_lift_100 : decode cX0_lift 100 = .ok (.iconst 1, 1) := by decide +kernel
theorem dX0_lift_101 : decode cX0_lift 101 = .ok (.iadd, 1) := by decide +kernel
theorem dX0_lift_102 : decode cX0_lift 102 = .ok (.putfield 71, 3) := by decide +kernel
theorem dX0_lift_105 : decode cX0_lift 105 = .ok (.aload_n 0, 1) := by decide +kernel
theorem dX0_lift_106 : decode cX0_lift 106 = .ok (.iconst 2, 1) := by decide +kernel
theorem dX0_lift_107 : decode cX0_lift 107 = .ok (.invokevirtual 68, 3) := by decide +kernel
theorem dX0_lift_110 : decode cX0_lift 110 = .ok (.aload_n 0, 1) := by decide +kernel
theorem dX0_lift_111 : decode cX0_lift 111 = .ok (.dup, 1) := by decide +kernel
theorem dX0_lift_112 : decode cX0_lift 112 = .ok (.getfield 74, 3) := by decide +kernel
theorem dX0_lift_115 : decode cX0_lift 115 = .ok (.iconst 1, 1) := by decide +kernel
theorem dX0_lift_116 : decode cX0_lift 116 = .ok (.iadd, 1) := by decide +kernel
theorem dX0_lift_117 : decode cX0_lift 117 = .ok (.putfield 74, 3) := by decide +kernel
theorem dX0_lift_120 : decode cX0_lift 120 = .ok (.aload_n 0, 1) := by decide +kernel
theorem dX0_lift_121 : decode cX0_lift 121 = .ok (.iconst 3, 1) := by decide +kernel
theorem dX0_lift_122 : decode cX0_lift 122 = .ok (.invokevirtual 68, 3) := by decide +kernel
theorem dX0_lift_125 : decode cX0_lift 125 = .ok (.aload_n 0, 1) := by decide +kernel
theorem dX0_lift_126 : decode cX0_lift 126 = .ok (.invokevirtual 77, 3) := by decide +kernel
theorem dX0_lift_129 : decode cX0_lift 129 = .ok (.iload 4, 2) := by decide +kernel
theorem dX0_lift_131 : decode cX0_lift 131 = .ok (.bipush (-2), 2) := by decide +kernel
theorem dX0_lift_133 : decode cX0_lift 133 = .ok (.if_icmp .ne 38, 3) := by decide +kernel
theorem dX0_lift_136 : decode cX0_lift 136 = .ok (.aload_n 0, 1) := by decide +kernel
theorem dX0_lift_137 : decode cX0_lift 137 = .ok (.dup, 1) := by decide +kernel
theorem dX0_lift_138 : decode cX0_lift 138 = .ok (.getfield 74, 3) := by decide +kernel
theorem dX0_lift_141 : decode cX0_lift 141 = .ok (.iconst 1, 1) := by decide +kernel
theorem dX0_lift_142 : decode cX0_lift 142 = .ok (.isub, 1) := by decide +kernel
theorem dX0_lift_143 : decode cX0_lift 143 = .ok (.putfield 74, 3) := by decide +kernel
theorem dX0_lift_146 : decode cX0_lift 146 = .ok (.aload_n 0, 1) := by decide +kernel
theorem dX0_lift_147 : decode cX0_lift 147 = .ok (.bipush (-3), 2) := by decide +kernel
theorem dX0_lift_149 : decode cX0_lift 149 = .ok (.invokevirtual 68, 3) := by decide +kernel
theorem dX0_lift_152 : decode cX0_lift 152 = .ok (.aload_n 0, 1) := by decide +kernel
theorem dX0_lift_153 : decode cX0_lift 153 = .ok (.dup, 1) := by decide +kernel
theorem dX0_lift_154 : decode cX0_lift 154 = .ok (.getfield 71, 3) := by decide +kernel
theorem dX0_lift_157 : decode cX0_lift 157 = .ok (.iconst 1, 1) := by decide +kernel
theorem dX0_lift_158 : decode cX0_lift 158 = .ok (.isub, 1) := by decide +kernel
theorem dX0_lift_159 : decode cX0_lift 159 = .ok (.putfield 71, 3) := by decide +kernel
theorem dX0_lift_162 : decode cX0_lift 162 = .ok (.aload_n 0, 1) := by decide +kernel
theorem dX0_lift_163 : decode cX0_lift 163 = .ok (.bipush (-2), 2) := by decide +kernel
theorem dX0_lift_165 : decode cX0_lift 165 = .ok (.invokevirtual 68, 3) := by decide +kernel
theorem dX0_lift_168 : decode cX0_lift 168 = .ok (.goto 207, 3) := by decide +kernel
theorem dX0_lift_171 : decode cX0_lift 171 = .ok (.iload 4, 2) := by decide +kernel
theorem dX0_lift_173 : decode cX0_lift 173 = .ok (.bipush (-3), 2) := by decide +kernel
theorem dX0_lift_175 : decode cX0_lift 175 = .ok (.if_icmp .ne 38, 3) := by decide +kernel
theorem dX0_lift_178 : decode cX0_lift 178 = .ok (.aload_n 0, 1) := by decide +kernel
theorem dX0_lift_179 : decode cX0_lift 179 = .ok (.dup, 1) := by decide +kernel
theorem dX0_lift_180 : decode cX0_lift 180 = .ok (.getfield 74, 3) := by decide +kernel
theorem dX0_lift_183 : decode cX0_lift 183 = .ok (.iconst 1, 1) := by decide +kernel
theorem dX0_lift_184 : decode cX0_lift 184 = .ok (.isub, 1) := by decide +kernel
theorem dX0_lift_185 : decode cX0_lift 185 = .ok (.putfield 74, 3) := by decide +kernel
theorem dX0_lift_188 : decode cX0_lift 188 = .ok (.aload_n 0, 1) := by decide +kernel
theorem dX0_lift_189 : decode cX0_lift 189 = .ok (.bipush (-3), 2) := by decide +kernel
theorem dX0_lift_191 : decode cX0_lift 191 = .ok (.invokevirtual 68, 3) := by decide +kernel
theorem dX0_lift_194 : decode cX0_lift 194 = .ok (.aload_n 0, 1) := by decide +kernel
theorem dX0_lift_195 : decode cX0_lift 195 = .ok (.dup, 1) := by decide +kernel
theorem dX0_lift_196 : decode cX0_lift 196 = .ok (.getfield 71, 3) := by decide +kernel
theorem dX0_lift_199 : decode cX0_lift 199 = .ok (.iconst 1, 1) := by decide +kernel
theorem dX0_lift_200 : decode cX0_lift 200 = .ok (.isub, 1) := by decide +kernel
theorem dX0_lift_201 : decode cX0_lift 201 = .ok (.putfield 71, 3) := by decide +kernel
theorem dX0_lift_204 : decode cX0_lift 204 = .ok (.aload_n 0, 1) := by decide +kernel
theorem dX0_lift_205 : decode cX0_lift 205 = .ok (.bipush (-2), 2) := by decide +kernel
theorem dX0_lift_207 : decode cX0_lift 207 = .ok (.invokevirtual 68, 3) := by decide +kernel
theorem dX0_lift_210 : decode cX0_lift 210 = .ok (.goto 159, 3) := by decide +kernel
theorem dX0_lift_213 : decode cX0_lift 213 = .ok (.iload 4, 2) := by decide +kernel
theorem dX0_lift_215 : decode cX0_lift 215 = .ok (.bipush (-4), 2) := by decide +kernel
theorem dX0_lift_217 : decode cX0_lift 217 = .ok (.if_icmp .ne 61, 3) := by decide +kernel
theorem dX0_lift_220 : decode cX0_lift 220 = .ok (.aload_n 0, 1) := by decide +kernel
theorem dX0_lift_221 : decode cX0_lift 221 = .ok (.dup, 1) := by decide +kernel
theorem dX0_lift_222 : decode cX0_lift 222 = .ok (.getfield 74, 3) := by decide +kernel
theorem dX0_lift_225 : decode cX0_lift 225 = .ok (.iconst 1, 1) := by decide +kernel
theorem dX0_lift_226 : decode cX0_lift 226 = .ok (.isub, 1) := by decide +kernel
theorem dX0_lift_227 : decode cX0_lift 227 = .ok (.putfield 74, 3) := by decide +kernel
theorem dX0_lift_230 : decode cX0_lift 230 = .ok (.aload_n 0, 1) := by decide +kernel
theorem dX0_lift_231 : decode cX0_lift 231 = .ok (.bipush (-3), 2) := by decide +kernel
theorem dX0_lift_233 : decode cX0_lift 233 = .ok (.invokevirtual 68, 3) := by decide +kernel
theorem dX0_lift_236 : decode cX0_lift 236 = .ok (.aload_n 0, 1) := by decide +kernel
theorem dX0_lift_237 : decode cX0_lift 237 = .ok (.dup, 1) := by decide +kernel
theorem dX0_lift_238 : decode cX0_lift 238 = .ok (.getfield 71, 3) := by decide +kernel
theorem dX0_lift_241 : decode cX0_lift 241 = .ok (.iconst 1, 1) := by decide +kernel
theorem dX0_lift_242 : decode cX0_lift 242 = .ok (.isub, 1) := by decide +kernel
theorem dX0_lift_243 : decode cX0_lift 243 = .ok (.putfield 71, 3) := by decide +kernel
end
section
set_option maxRecDepth 100000
theorem dX0_lift_246 : decode cX0_lift 246 = .ok (.aload_n 0, 1) := by decide +kernel
theorem dX0_lift_247 : decode cX0_lift 247 = .ok (.bipush (-2), 2) := by decide +kernel
theorem dX0_lift_249 : decode cX0_lift 249 = .ok (.invokevirtual 68, 3) := by decide +kernel
theorem dX0_lift_252 : decode cX0_lift 252 = .ok (.aload_n 0, 1) := by decide +kernel
theorem dX0_lift_253 : decode cX0_lift 253 = .ok (.dup, 1) := by decide +kernel
theorem dX0_lift_254 : decode cX0_lift 254 = .ok (.getfield 56, 3) := by decide +kernel
theorem dX0_lift_257 : decode cX0_lift 257 = .ok (.iconst 1, 1) := by decide +kernel
theorem dX0_lift_258 : decode cX0_lift 258 = .ok (.isub, 1) := by decide +kernel
theorem dX0_lift_259 : decode cX0_lift 259 = .ok (.putfield 56, 3) := by decide +kernel
theorem dX0_lift_262 : decode cX0_lift 262 = .ok (.aload_n 0, 1) := by decide +kernel
theorem dX0_lift_263 : decode cX0_lift 263 = .ok (.dup, 1) := by decide +kernel
theorem dX0_lift_264 : decode cX0_lift 264 = .ok (.getfield 62, 3) := by decide +kernel
theorem dX0_lift_267 : decode cX0_lift 267 = .ok (.iconst 1, 1) := by decide +kernel
theorem dX0_lift_268 : decode cX0_lift 268 = .ok (.isub, 1) := by decide +kernel
theorem dX0_lift_269 : decode cX0_lift 269 = .ok (.putfield 62, 3) := by decide +kernel
theorem dX0_lift_272 : decode cX0_lift 272 = .ok (.aload_n 0, 1) := by decide +kernel
theorem dX0_lift_273 : decode cX0_lift 273 = .ok (.iconst (-1), 1) := by decide +kernel
theorem dX0_lift_274 : decode cX0_lift 274 = .ok (.invokevirtual 68, 3) := by decide +kernel
theorem dX0_lift_277 : decode cX0_lift 277 = .ok (.return_, 1) := by decide +kernel
theorem dX0_lift_278 : decode cX0_lift 278 = .ok (.aload_n 0, 1) := by decide +kernel
theorem dX0_lift_279 : decode cX0_lift 279 = .ok (.iload 4, 2) := by decide +kernel
theorem dX0_lift_281 : decode cX0_lift 281 = .ok (.invokevirtual 80, 3) := by decide +kernel
theorem dX0_lift_284 : decode cX0_lift 284 = .ok (.aload_n 0, 1) := by decide +kernel
theorem dX0_lift_285 : decode cX0_lift 285 = .ok (.dup, 1) := by decide +kernel
theorem dX0_lift_286 : decode cX0_lift 286 = .ok (.getfield 74, 3) := by decide +kernel
theorem dX0_lift_289 : decode cX0_lift 289 = .ok (.iconst 1, 1) := by decide +kernel
theorem dX0_lift_290 : decode cX0_lift 290 = .ok (.isub, 1) := by decide +kernel
theorem dX0_lift_291 : decode cX0_lift 291 = .ok (.putfield 74, 3) := by decide +kernel
theorem dX0_lift_294 : decode cX0_lift 294 = .ok (.aload_n 0, 1) := by decide +kernel
theorem dX0_lift_295 : decode cX0_lift 295 = .ok (.bipush (-3), 2) := by decide +kernel
theorem dX0_lift_297 : decode cX0_lift 297 = .ok (.invokevirtual 68, 3) := by decide +kernel
theorem dX0_lift_300 : decode cX0_lift 300 = .ok (.goto 24, 3) := by decide +kernel
theorem dX0_lift_303 : decode cX0_lift 303 = .ok (.astore 5, 2) := by decide +kernel
theorem dX0_lift_305 : decode cX0_lift 305 = .ok (.aload_n 0, 1) := by decide +kernel
theorem dX0_lift_306 : decode cX0_lift 306 = .ok (.dup, 1) := by decide +kernel
theorem dX0_lift_307 : decode cX0_lift 307 = .ok (.getfield 74, 3) := by decide +kernel
theorem dX0_lift_310 : decode cX0_lift 310 = .ok (.iconst 1, 1) := by decide +kernel
theorem dX0_lift_311 : decode cX0_lift 311 = .ok (.isub, 1) := by decide +kernel
theorem dX0_lift_312 : decode cX0_lift 312 = .ok (.putfield 74, 3) := by decide +kernel
theorem dX0_lift_315 : decode cX0_lift 315 = .ok (.aload_n 0, 1) := by decide +kernel
theorem dX0_lift_316 : decode cX0_lift 316 = .ok (.bipush (-3), 2) := by decide +kernel
theorem dX0_lift_318 : decode cX0_lift 318 = .ok (.invokevirtual 68, 3) := by decide +kernel
theorem dX0_lift_321 : decode cX0_lift 321 = .ok (.aload 5, 2) := by decide +kernel
theorem dX0_lift_323 : decode cX0_lift 323 = .ok (.athrow, 1) := by decide +kernel
theorem dX0_lift_324 : decode cX0_lift 324 = .ok (.aload_n 0, 1) := by decide +kernel
theorem dX0_lift_325 : decode cX0_lift 325 = .ok (.dup, 1) := by decide +kernel
theorem dX0_lift_326 : decode cX0_lift 326 = .ok (.getfield 71, 3) := by decide +kernel
theorem dX0_lift_329 : decode cX0_lift 329 = .ok (.iconst 1, 1) := by decide +kernel
theorem dX0_lift_330 : decode cX0_lift 330 = .ok (.isub, 1) := by decide +kernel
theorem dX0_lift_331 : decode cX0_lift 331 = .ok (.putfield 71, 3) := by decide +kernel
theorem dX0_lift_334 : decode cX0_lift 334 = .ok (.aload_n 0, 1) := by decide +kernel
theorem dX0_lift_335 : decode cX0_lift 335 = .ok (.bipush (-2), 2) := by decide +kernel
theorem dX0_lift_337 : decode cX0_lift 337 = .ok (.invokevirtual 68, 3) := by decide +kernel
theorem dX0_lift_340 : decode cX0_lift 340 = .ok (.goto 24, 3) := by decide +kernel
theorem dX0_lift_343 : decode cX0_lift 343 = .ok (.astore 6, 2) := by decide +kernel
theorem dX0_lift_345 : decode cX0_lift 345 = .ok (.aload_n 0, 1) := by decide +kernel
theorem dX0_lift_346 : decode cX0_lift 346 = .ok (.dup, 1) := by decide +kernel
theorem dX0_lift_347 : decode cX0_lift 347 = .ok (.getfield 71, 3) := by decide +kernel
theorem dX0_lift_350 : decode cX0_lift 350 = .ok (.iconst 1, 1) := by decide +kernel
theorem dX0_lift_351 : decode cX0_lift 351 = .ok (.isub, 1) := by decide +kernel
theorem dX0_lift_352 : decode cX0_lift 352 = .ok (.putfield 71, 3) := by decide +kernel
theorem dX0_lift_355 : decode cX0_lift 355 = .ok (.aload_n 0, 1) := by decide +kernel
theorem dX0_lift_356 : decode cX0_lift 356 = .ok (.bipush (-2), 2) := by decide +kernel
theorem dX0_lift_358 : decode cX0_lift 358 = .ok (.invokevirtual 68, 3) := by decide +kernel
theorem dX0_lift_361 : decode cX0_lift 361 = .ok (.aload 6, 2) := by decide +kernel
theorem dX0_lift_363 : decode cX0_lift 363 = .ok (.athrow, 1) := by decide +kernel
theorem dX0_lift_364 : decode cX0_lift 364 = .ok (.aload_n 0, 1) := by decide +kernel
theorem dX0_lift_365 : decode cX0_lift 365 = .ok (.iconst 5, 1) := by decide +kernel
theorem dX0_lift_366 : decode cX0_lift 366 = .ok (.invokevirtual 68, 3) := by decide +kernel
theorem dX0_lift_369 : decode cX0_lift 369 = .ok (.iinc 3 1, 3) := by decide +kernel
theorem dX0_lift_372 : decode cX0_lift 372 = .ok (.goto (-293), 3) := by decide +kernel
theorem dX0_lift_375 : decode cX0_lift 375 = .ok (.aload_n 0, 1) := by decide +kernel
theorem dX0_lift_376 : decode cX0_lift 376 = .ok (.iconst 4, 1) := by decide +kernel
theorem dX0_lift_377 : decode cX0_lift 377 = .ok (.invokevirtual 68, 3) := by decide +kernel
theorem dX0_lift_380 : decode cX0_lift 380 = .ok (.aload_n 0, 1) := by decide +kernel
theorem dX0_lift_381 : decode cX0_lift 381 = .ok (.dup, 1) := by decide +kernel
theorem dX0_lift_382 : decode cX0_lift 382 = .ok (.getfield 83, 3) := by decide +kernel
theorem dX0_lift_385 : decode cX0_lift 385 = .ok (.iconst 1, 1) := by decide +kernel
theorem dX0_lift_386 : decode cX0_lift 386 = .ok (.iadd, 1) := by decide +kernel
theorem dX0_lift_387 : decode cX0_lift 387 = .ok (.putfield 83, 3) := by decide +kernel
theorem dX0_lift_390 : decode cX0_lift 390 = .ok (.aload_n 0, 1) := by decide +kernel
theorem dX0_lift_391 : decode cX0_lift 391 = .ok (.dup, 1) := by decide +kernel
theorem dX0_lift_392 : decode cX0_lift 392 = .ok (.getfield 56, 3) := by decide +kernel
theorem dX0_lift_395 : decode cX0_lift 395 = .ok (.iconst 1, 1) := by decide +kernel
theorem dX0_lift_396 : decode cX0_lift 396 = .ok (.isub, 1) := by decide +kernel
theorem dX0_lift_397 : decode cX0_lift 397 = .ok (.putfield 56, 3) := by decide +kernel
theorem dX0_lift_400 : decode cX0_lift 400 = .ok (.aload_n 0, 1) := by decide +kernel
theorem dX0_lift_401 : decode cX0_lift 401 = .ok (.dup, 1) := by decide +kernel
theorem dX0_lift_402 : decode cX0_lift 402 = .ok (.getfield 62, 3) := by decide +kernel
theorem dX0_lift_405 : decode cX0_lift 405 = .ok (.iconst 1, 1) := by decide +kernel
theorem dX0_lift_406 : decode cX0_lift 406 = .ok (.isub, 1) := by decide +kernel
theorem dX0_lift_407 : decode cX0_lift 407 = .ok (.putfield 62, 3) := by decide +kernel
theorem dX0_lift_410 : decode cX0_lift 410 = .ok (.aload_n 0, 1) := by decide +kernel
theorem dX0_lift_411 : decode cX0_lift 411 = .ok (.iconst (-1), 1) := by decide +kernel
theorem dX0_lift_412 : decode cX0_lift 412 = .ok (.invokevirtual 68, 3) := by decide +kernel
theorem dX0_lift_415 : decode cX0_lift 415 = .ok (.goto 33, 3) := by decide +kernel
theorem dX0_lift_418 : decode cX0_lift 418 = .ok (.astore 7, 2) := by decide +kernel
theorem dX0_lift_420 : decode cX0_lift 420 = .ok (.aload_n 0, 1) := by decide +kernel
theorem dX0_lift_421 : decode cX0_lift 421 = .ok (.dup, 1) := by decide +kernel
theorem dX0_lift_422 : decode cX0_lift 422 = .ok (.getfield 56, 3) := by decide +kernel
theorem dX0_lift_425 : decode cX0_lift 425 = .ok (.iconst 1, 1) := by decide +kernel
theorem dX0_lift_426 : decode cX0_lift 426 = .ok (.isub, 1) := by decide +kernel
theorem dX0_lift_427 : decode cX0_lift 427 = .ok (.putfield 56, 3) := by decide +kernel
theorem dX0_lift_430 : decode cX0_lift 430 = .ok (.aload_n 0, 1) := by decide +kernel
theorem dX0_lift_431 : decode cX0_lift 431 = .ok (.dup, 1) := by decide +kernel
theorem dX0_lift_432 : decode cX0_lift 432 = .ok (.getfield 62, 3) := by decide +kernel
theorem dX0_lift_435 : decode cX0_lift 435 = .ok (.iconst 1, 1) := by decide +kernel
theorem dX0_lift_436 : decode cX0_lift 436 = .ok (.isub, 1) := by decide +kernel
theorem dX0_lift_437 : decode cX0_lift 437 = .ok (.putfield 62, 3) := by decide +kernel
theorem dX0_lift_440 : decode cX0_lift 440 = .ok (.aload_n 0, 1) := by decide +kernel
theorem dX0_lift_441 : decode cX0_lift 441 = .ok (.iconst (-1), 1) := by decide +kernel
theorem dX0_lift_442 : decode cX0_lift 442 = .ok (.invokevirtual 68, 3) := by decide +kernel
theorem dX0_lift_445 : decode cX0_lift 445 = .ok (.aload 7, 2) := by decide +kernel
theorem dX0_lift_447 : decode cX0_lift 447 = .ok (.athrow, 1) := by decide +kernel
theorem dX0_lift_448 : decode cX0_lift 448 = .ok (.return_, 1) := by decide +kernel
theorem dX0_write_0 : decode cX0_write 0 = .ok (.aload_n 0, 1) := by decide +kernel
theorem dX0_write_1 : decode cX0_write 1 = .ok (.getfield 21, 3) := by decide +kernel
theorem dX0_write_4 : decode cX0_write 4 = .ok (.aload_n 0, 1) := by decide +kernel
theorem dX0_write_5 : decode cX0_write 5 = .ok (.getfield 53, 3) := by decide +kernel
theorem dX0_write_8 : decode cX0_write 8 = .ok (.iload_n 1, 1) := by decide +kernel
theorem dX0_write_9 : decode cX0_write 9 = .ok (.iastore, 1) := by decide +kernel
theorem dX0_write_10 : decode cX0_write 10 = .ok (.aload_n 0, 1) := by decide +kernel
theorem dX0_write_11 : decode cX0_write 11 = .ok (.dup, 1) := by decide +kernel
theorem dX0_write_12 : decode cX0_write 12 = .ok (.getfield 53, 3) := by decide +kernel
theorem dX0_write_15 : decode cX0_write 15 = .ok (.iconst 1, 1) := by decide +kernel
theorem dX0_write_16 : decode cX0_write 16 = .ok (.iadd, 1) := by decide +kernel
theorem dX0_write_17 : decode cX0_write 17 = .ok (.putfield 53, 3) := by decide +kernel
theorem dX0_write_20 : decode cX0_write 20 = .ok (.return_, 1) := by decide +kernel
theorem dX0_begin_0 : decode cX0_begin 0 = .ok (.aload_n 0, 1) := by decide +kernel
theorem dX0_begin_1 : decode cX0_begin 1 = .ok (.getfield 86, 3) := by decide +kernel
theorem dX0_begin_4 : decode cX0_begin 4 = .ok (.sipush 300, 3) := by decide +kernel
theorem dX0_begin_7 : decode cX0_begin 7 = .ok (.if_icmp .ne 11, 3) := by decide +kernel
theorem dX0_begin_10 : decode cX0_begin 10 = .ok (.new 89, 3) := by decide +kernel
theorem dX0_begin_13 : decode cX0_begin 13 = .ok (.dup, 1) := by decide +kernel
theorem dX0_begin_14 : decode cX0_begin 14 = .ok (.invokespecial 91, 3) := by decide +kernel
theorem dX0_begin_17 : decode cX0_begin 17 = .ok (.athrow, 1) := by decide +kernel
theorem dX0_begin_18 : decode cX0_begin 18 = .ok (.aload_n 0, 1) := by decide +kernel
theorem dX0_begin_19 : decode cX0_begin 19 = .ok (.dup, 1) := by decide +kernel
theorem dX0_begin_20 : decode cX0_begin 20 = .ok (.getfield 86, 3) := by decide +kernel
theorem dX0_begin_23 : decode cX0_begin 23 = .ok (.iconst 1, 1) := by decide +kernel
theorem dX0_begin_24 : decode cX0_begin 24 = .ok (.iadd, 1) := by decide +kernel
theorem dX0_begin_25 : decode cX0_begin 25 = .ok (.putfield 86, 3) := by decide +kernel
theorem dX0_begin_28 : decode cX0_begin 28 = .ok (.return_, 1) := by decide +kernel
theorem dX0_work_0 : decode cX0_work 0 = .ok (.iload_n 1, 1) := by decide +kernel
theorem dX0_work_1 : decode cX0_work 1 = .ok (.sipush 3000, 3) := by decide +kernel
theorem dX0_work_4 : decode cX0_work 4 = .ok (.if_icmp .lt 15, 3) := by decide +kernel
theorem dX0_work_7 : decode cX0_work 7 = .ok (.aload_n 0, 1) := by decide +kernel
theorem dX0_work_8 : decode cX0_work 8 = .ok (.iload_n 1, 1) := by decide +kernel
theorem dX0_work_9 : decode cX0_work 9 = .ok (.sipush 3000, 3) := by decide +kernel
theorem dX0_work_12 : decode cX0_work 12 = .ok (.isub, 1) := by decide +kernel
theorem dX0_work_13 : decode cX0_work 13 = .ok (.invokevirtual 92, 3) := by decide +kernel
theorem dX0_work_16 : decode cX0_work 16 = .ok (.goto 103, 3) := by decide +kernel
theorem dX0_work_19 : decode cX0_work 19 = .ok (.iload_n 1, 1) := by decide +kernel
theorem dX0_work_20 : decode cX0_work 20 = .ok (.sipush 2000, 3) := by decide +kernel
theorem dX0_work_23 : decode cX0_work 23 = .ok (.if_icmp .lt 15, 3) := by decide +kernel
theorem dX0_work_26 : decode cX0_work 26 = .ok (.aload_n 0, 1) := by decide +kernel
theorem dX0_work_27 : decode cX0_work 27 = .ok (.iload_n 1, 1) := by decide +kernel
theorem dX0_work_28 : decode cX0_work 28 = .ok (.sipush 2000, 3) := by decide +kernel
theorem dX0_work_31 : decode cX0_work 31 = .ok (.isub, 1) := by decide +kernel
theorem dX0_work_32 : decode cX0_work 32 = .ok (.invokevirtual 95, 3) := by decide +kernel
theorem dX0_work_35 : decode cX0_work 35 = .ok (.goto 84, 3) := by decide +kernel
theorem dX0_work_38 : decode cX0_work 38 = .ok (.iload_n 1, 1) := by decide +kernel
theorem dX0_work_39 : decode cX0_work 39 = .ok (.sipush 1000, 3) := by decide +kernel
theorem dX0_work_42 : decode cX0_work 42 = .ok (.if_icmp .lt 15, 3) := by decide +kernel
theorem dX0_work_45 : decode cX0_work 45 = .ok (.aload_n 0, 1) := by decide +kernel
theorem dX0_work_46 : decode cX0_work 46 = .ok (.iload_n 1, 1) := by decide +kernel
theorem dX0_work_47 : decode cX0_work 47 = .ok (.sipush 1000, 3) := by decide +kernel
theorem dX0_work_50 : decode cX0_work 50 = .ok (.isub, 1) := by decide +kernel
theorem dX0_work_51 : decode cX0_work 51 = .ok (.invokevirtual 98, 3) := by decide +kernel
theorem dX0_work_54 : decode cX0_work 54 = .ok (.goto 65, 3) := by decide +kernel
theorem dX0_work_57 : decode cX0_work 57 = .ok (.iload_n 1, 1) := by decide +kernel
theorem dX0_work_58 : decode cX0_work 58 = .ok (.ifCond .le 26, 3) := by decide +kernel
theorem dX0_work_61 : decode cX0_work 61 = .ok (.aload_n 0, 1) := by decide +kernel
theorem dX0_work_62 : decode cX0_work 62 = .ok (.dup, 1) := by decide +kernel
theorem dX0_work_63 : decode cX0_work 63 = .ok (.getfield 83, 3) := by decide +kernel
theorem dX0_work_66 : decode cX0_work 66 = .ok (.aload_n 0, 1) := by decide +kernel
theorem dX0_work_67 : decode cX0_work 67 = .ok (.getfield 101, 3) := by decide +kernel
theorem dX0_work_70 : decode cX0_work 70 = .ok (.iload_n 1, 1) := by decide +kernel
theorem dX0_work_71 : decode cX0_work 71 = .ok (.aload_n 0, 1) := by decide +kernel
theorem dX0_work_72 : decode cX0_work 72 = .ok (.getfield 44, 3) := by decide +kernel
theorem dX0_work_75 : decode cX0_work 75 = .ok (.isub, 1) := by decide +kernel
theorem dX0_work_76 : decode cX0_work 76 = .ok (.idiv, 1) := by decide +kernel
theorem dX0_work_77 : decode cX0_work 77 = .ok (.iadd, 1) := by decide +kernel
theorem dX0_work_78 : decode cX0_work 78 = .ok (.putfield 83, 3) := by decide +kernel
theorem dX0_work_81 : decode cX0_work 81 = .ok (.goto 38, 3) := by decide +kernel
theorem dX0_work_84 : decode cX0_work 84 = .ok (.iload_n 1, 1) := by decide +kernel
theorem dX0_work_85 : decode cX0_work 85 = .ok (.iconst (-1), 1) := by decide +kernel
theorem dX0_work_86 : decode cX0_work 86 = .ok (.if_icmp .ne 12, 3) := by decide +kernel
theorem dX0_work_89 : decode cX0_work 89 = .ok (.new 59, 3) := by decide +kernel
theorem dX0_work_92 : decode cX0_work 92 = .ok (.dup, 1) := by decide +kernel
theorem dX0_work_93 : decode cX0_work 93 = .ok (.iconst 1, 1) := by decide +kernel
theorem dX0_work_94 : decode cX0_work 94 = .ok (.invokespecial 61, 3) := by decide +kernel
theorem dX0_work_97 : decode cX0_work 97 = .ok (.athrow, 1) := by decide +kernel
theorem dX0_work_98 : decode cX0_work 98 = .ok (.aload_n 0, 1) := by decide +kernel
theorem dX0_work_99 : decode cX0_work 99 = .ok (.dup, 1) := by decide +kernel
theorem dX0_work_100 : decode cX0_work 100 = .ok (.getfield 83, 3) := by decide +kernel
theorem dX0_work_103 : decode cX0_work 103 = .ok (.aload_n 0, 1) := by decide +kernel
theorem dX0_work_104 : decode cX0_work 104 = .ok (.getfield 17, 3) := by decide +kernel
theorem dX0_work_107 : decode cX0_work 107 = .ok (.bipush (-10), 2) := by decide +kernel
theorem dX0_work_109 : decode cX0_work 109 = .ok (.iload_n 1, 1) := by decide +kernel
theorem dX0_work_110 : decode cX0_work 110 = .ok (.isub, 1) := by decide +kernel
theorem dX0_work_111 : decode cX0_work 111 = .ok (.aaload, 1) := by decide +kernel
theorem dX0_work_112 : decode cX0_work 112 = .ok (.getfield 47, 3) := by decide +kernel
theorem dX0_work_115 : decode cX0_work 115 = .ok (.iadd, 1) := by decide +kernel
theorem dX0_work_116 : decode cX0_work 116 = .ok (.putfield 83, 3) := by decide +kernel
theorem dX0_work_119 : decode cX0_work 119 = .ok (.return_, 1) := by decide +kernel
theorem dX0_sheltered_0 : decode cX0_sheltered 0 = .ok (.iconst 0, 1) := by decide +kernel
theorem dX0_sheltered_1 : decode cX0_sheltered 1 = .ok (.istore_n 2, 1) := by decide +kernel
theorem dX0_sheltered_2 : decode cX0_sheltered 2 = .ok (.aload_n 0, 1) := by decide +kernel
theorem dX0_sheltered_3 : decode cX0_sheltered 3 = .ok (.iload_n 1, 1) := by decide +kernel
theorem dX0_sheltered_4 : decode cX0_sheltered 4 = .ok (.invokevirtual 98, 3) := by decide +kernel
theorem dX0_sheltered_7 : decode cX0_sheltered 7 = .ok (.goto 33, 3) := by decide +kernel
theorem dX0_sheltered_10 : decode cX0_sheltered 10 = .ok (.astore_n 3, 1) := by decide +kernel
theorem dX0_sheltered_11 : decode cX0_sheltered 11 = .ok (.aload_n 3, 1) := by decide +kernel
theorem dX0_sheltered_12 : decode cX0_sheltered 12 = .ok (.getfield 115, 3) := by decide +kernel
theorem dX0_sheltered_15 : decode cX0_sheltered 15 = .ok (.istore_n 2, 1) := by decide +kernel
theorem dX0_sheltered_16 : decode cX0_sheltered 16 = .ok (.goto 24, 3) := by decide +kernel
theorem dX0_sheltered_19 : decode cX0_sheltered 19 = .ok (.astore_n 3, 1) := by decide +kernel
theorem dX0_sheltered_20 : decode cX0_sheltered 20 = .ok (.iconst 5, 1) := by decide +kernel
theorem dX0_sheltered_21 : decode cX0_sheltered 21 = .ok (.istore_n 2, 1) := by decide +kernel
theorem dX0_sheltered_22 : decode cX0_sheltered 22 = .ok (.goto 18, 3) := by decide +kernel
theorem dX0_sheltered_25 : decode cX0_sheltered 25 = .ok (.astore_n 3, 1) := by decide +kernel
theorem dX0_sheltered_26 : decode cX0_sheltered 26 = .ok (.iconst 2, 1) := by decide +kernel
theorem dX0_sheltered_27 : decode cX0_sheltered 27 = .ok (.istore_n 2, 1) := by decide +kernel
theorem dX0_sheltered_28 : decode cX0_sheltered 28 = .ok (.goto 12, 3) := by decide +kernel
theorem dX0_sheltered_31 : decode cX0_sheltered 31 = .ok (.astore_n 3, 1) := by decide +kernel
theorem dX0_sheltered_32 : decode cX0_sheltered 32 = .ok (.iconst 3, 1) := by decide +kernel
theorem dX0_sheltered_33 : decode cX0_sheltered 33 = .ok (.istore_n 2, 1) := by decide +kernel
theorem dX0_sheltered_34 : decode cX0_sheltered 34 = .ok (.goto 6, 3) := by decide +kernel
theorem dX0_sheltered_37 : decode cX0_sheltered 37 = .ok (.astore_n 3, 1) := by decide +kernel
theorem dX0_sheltered_38 : decode cX0_sheltered 38 = .ok (.iconst 4, 1) := by decide +kernel
theorem dX0_sheltered_39 : decode cX0_sheltered 39 = .ok (.istore_n 2, 1) := by decide +kernel
theorem dX0_sheltered_40 : decode cX0_sheltered 40 = .ok (.iload_n 2, 1) := by decide +kernel
theorem dX0_sheltered_41 : decode cX0_sheltered 41 = .ok (.ifCond .le 19, 3) := by decide +kernel
theorem dX0_sheltered_44 : decode cX0_sheltered 44 = .ok (.aload_n 0, 1) := by decide +kernel
theorem dX0_sheltered_45 : decode cX0_sheltered 45 = .ok (.bipush 7, 2) := by decide +kernel
theorem dX0_sheltered_47 : decode cX0_sheltered 47 = .ok (.invokevirtual 68, 3) := by decide +kernel
theorem dX0_sheltered_50 : decode cX0_sheltered 50 = .ok (.aload_n 0, 1) := by decide +kernel
theorem dX0_sheltered_51 : decode cX0_sheltered 51 = .ok (.dup, 1) := by decide +kernel
theorem dX0_sheltered_52 : decode cX0_sheltered 52 = .ok (.getfield 83, 3) := by decide +kernel
theorem dX0_sheltered_55 : decode cX0_sheltered 55 = .ok (.iload_n 2, 1) := by decide +kernel
theorem dX0_sheltered_56 : decode cX0_sheltered 56 = .ok (.iadd, 1) := by decide +kernel
theorem dX0_sheltered_57 : decode cX0_sheltered 57 = .ok (.putfield 83, 3) := by decide +kernel
theorem dX0_sheltered_60 : decode cX0_sheltered 60 = .ok (.return_, 1) := by decide +kernel
theorem dX0_guarded_0 : decode cX0_guarded 0 = .ok (.aload_n 0, 1) := by decide +kernel
theorem dX0_guarded_1 : decode cX0_guarded 1 = .ok (.iload_n 1, 1) := by decide +kernel
theorem dX0_guarded_2 : decode cX0_guarded 2 = .ok (.invokevirtual 98, 3) := by decide +kernel
theorem dX0_guarded_5 : decode cX0_guarded 5 = .ok (.goto 58, 3) := by decide +kernel
theorem dX0_guarded_8 : decode cX0_guarded 8 = .ok (.astore_n 2, 1) := by decide +kernel
theorem dX0_guarded_9 : decode cX0_guarded 9 = .ok (.new 104, 3) := by decide +kernel
theorem dX0_guarded_12 : decode cX0_guarded 12 = .ok (.dup, 1) := by decide +kernel
theorem dX0_guarded_13 : decode cX0_guarded 13 = .ok (.iload_n 1, 1) := by decide +kernel
theorem dX0_guarded_14 : decode cX0_guarded 14 = .ok (.aload_n 2, 1) := by decide +kernel
theorem dX0_guarded_15 : decode cX0_guarded 15 = .ok (.invokespecial 106, 3) := by decide +kernel
theorem dX0_guarded_18 : decode cX0_guarded 18 = .ok (.athrow, 1) := by decide +kernel
theorem dX0_guarded_19 : decode cX0_guarded 19 = .ok (.astore_n 2, 1) := by decide +kernel
theorem dX0_guarded_20 : decode cX0_guarded 20 = .ok (.new 104, 3) := by decide +kernel
theorem dX0_guarded_23 : decode cX0_guarded 23 = .ok (.dup, 1) := by decide +kernel
theorem dX0_guarded_24 : decode cX0_guarded 24 = .ok (.iload_n 1, 1) := by decide +kernel
theorem dX0_guarded_25 : decode cX0_guarded 25 = .ok (.aload_n 2, 1) := by decide +kernel
theorem dX0_guarded_26 : decode cX0_guarded 26 = .ok (.invokespecial 106, 3) := by decide +kernel
theorem dX0_guarded_29 : decode cX0_guarded 29 = .ok (.athrow, 1) := by decide +kernel
theorem dX0_guarded_30 : decode cX0_guarded 30 = .ok (.astore_n 2, 1) := by decide +kernel
theorem dX0_guarded_31 : decode cX0_guarded 31 = .ok (.new 104, 3) := by decide +kernel
theorem dX0_guarded_34 : decode cX0_guarded 34 = .ok (.dup, 1) := by decide +kernel
theorem dX0_guarded_35 : decode cX0_guarded 35 = .ok (.iload_n 1, 1) := by decide +kernel
theorem dX0_guarded_36 : decode cX0_guarded 36 = .ok (.aload_n 2, 1) := by decide +kernel
theorem dX0_guarded_37 : decode cX0_guarded 37 = .ok (.invokespecial 106, 3) := by decide +kernel
theorem dX0_guarded_40 : decode cX0_guarded 40 = .ok (.athrow, 1) := by decide +kernel
theorem dX0_guarded_41 : decode cX0_guarded 41 = .ok (.astore_n 2, 1) := by decide +kernel
theorem dX0_guarded_42 : decode cX0_guarded 42 = .ok (.new 104, 3) := by decide +kernel
theorem dX0_guarded_45 : decode cX0_guarded 45 = .ok (.dup, 1) := by decide +kernel
theorem dX0_guarded_46 : decode cX0_guarded 46 = .ok (.iload_n 1, 1) := by decide +kernel
theorem dX0_guarded_47 : decode cX0_guarded 47 = .ok (.aload_n 2, 1) := by decide +kernel
theorem dX0_guarded_48 : decode cX0_guarded 48 = .ok (.invokespecial 106, 3) := by decide +kernel
theorem dX0_guarded_51 : decode cX0_guarded 51 = .ok (.athrow, 1) := by decide +kernel
theorem dX0_guarded_52 : decode cX0_guarded 52 = .ok (.astore_n 2, 1) := by decide +kernel
theorem dX0_guarded_53 : decode cX0_guarded 53 = .ok (.new 104, 3) := by decide +kernel
theorem dX0_guarded_56 : decode cX0_guarded 56 = .ok (.dup, 1) := by decide +kernel
theorem dX0_guarded_57 : decode cX0_guarded 57 = .ok (.iload_n 1, 1) := by decide +kernel
theorem dX0_guarded_58 : decode cX0_guarded 58 = .ok (.aload_n 2, 1) := by decide +kernel
theorem dX0_guarded_59 : decode cX0_guarded 59 = .ok (.invokespecial 106, 3) := by decide +kernel
theorem dX0_guarded_62 : decode cX0_guarded 62 = .ok (.athrow, 1) := by decide +kernel
theorem dX0_guarded_63 : decode cX0_guarded 63 = .ok (.return_, 1) := by decide +kernel
theorem dX0_behind_0 : decode cX0_behind 0 = .ok (.aload_n 0, 1) := by decide +kernel
theorem dX0_behind_1 : decode cX0_behind 1 = .ok (.iconst 5, 1) := by decide +kernel
theorem dX0_behind_2 : decode cX0_behind 2 = .ok (.invokevirtual 124, 3) := by decide +kernel
theorem dX0_behind_5 : decode cX0_behind 5 = .ok (.aload_n 0, 1) := by decide +kernel
theorem dX0_behind_6 : decode cX0_behind 6 = .ok (.aload_n 1, 1) := by decide +kernel
theorem dX0_behind_7 : decode cX0_behind 7 = .ok (.getfield 127, 3) := by decide +kernel
theorem dX0_behind_10 : decode cX0_behind 10 = .ok (.putfield 25, 3) := by decide +kernel
theorem dX0_behind_13 : decode cX0_behind 13 = .ok (.aload_n 1, 1) := by decide +kernel
theorem dX0_behind_14 : decode cX0_behind 14 = .ok (.astore_n 2, 1) := by decide +kernel
theorem dX0_behind_15 : decode cX0_behind 15 = .ok (.aload_n 2, 1) := by decide +kernel
theorem dX0_behind_16 : decode cX0_behind 16 = .ok (.invokevirtual 130, 3) := by decide +kernel
theorem dX0_behind_19 : decode cX0_behind 19 = .ok (.ifnull 21, 3) := by decide +kernel
theorem dX0_behind_22 : decode cX0_behind 22 = .ok (.aload_n 2, 1) := by decide +kernel
theorem dX0_behind_23 : decode cX0_behind 23 = .ok (.invokevirtual 130, 3) := by decide +kernel
theorem dX0_behind_26 : decode cX0_behind 26 = .ok (.astore_n 2, 1) := by decide +kernel
theorem dX0_behind_27 : decode cX0_behind 27 = .ok (.aload_n 0, 1) := by decide +kernel
theorem dX0_behind_28 : decode cX0_behind 28 = .ok (.dup, 1) := by decide +kernel
theorem dX0_behind_29 : decode cX0_behind 29 = .ok (.getfield 136, 3) := by decide +kernel
theorem dX0_behind_32 : decode cX0_behind 32 = .ok (.iconst 1, 1) := by decide +kernel
theorem dX0_behind_33 : decode cX0_behind 33 = .ok (.iadd, 1) := by decide +kernel
theorem dX0_behind_34 : decode cX0_behind 34 = .ok (.putfield 136, 3) := by decide +kernel
theorem dX0_behind_37 : decode cX0_behind 37 = .ok (.goto (-22), 3) := by decide +kernel
theorem dX0_behind_40 : decode cX0_behind 40 = .ok (.aload_n 0, 1) := by decide +kernel
theorem dX0_behind_41 : decode cX0_behind 41 = .ok (.aload_n 2, 1) := by decide +kernel
theorem dX0_behind_42 : decode cX0_behind 42 = .ok (.instanceof 59, 3) := by decide +kernel
theorem dX0_behind_45 : decode cX0_behind 45 = .ok (.ifCond .eq 13, 3) := by decide +kernel
theorem dX0_behind_48 : decode cX0_behind 48 = .ok (.aload_n 2, 1) := by decide +kernel
theorem dX0_behind_49 : decode cX0_behind 49 = .ok (.checkcast 59, 3) := by decide +kernel
theorem dX0_behind_52 : decode cX0_behind 52 = .ok (.getfield 115, 3) := by decide +kernel
theorem dX0_behind_55 : decode cX0_behind 55 = .ok (.goto 26, 3) := by decide +kernel
theorem dX0_behind_58 : decode cX0_behind 58 = .ok (.aload_n 2, 1) := by decide +kernel
theorem dX0_behind_59 : decode cX0_behind 59 = .ok (.instanceof 109, 3) := by decide +kernel
theorem dX0_behind_62 : decode cX0_behind 62 = .ok (.ifCond .eq 7, 3) := by decide +kernel
theorem dX0_behind_65 : decode cX0_behind 65 = .ok (.iconst 2, 1) := by decide +kernel
theorem dX0_behind_66 : decode cX0_behind 66 = .ok (.goto 15, 3) := by decide +kernel
theorem dX0_behind_69 : decode cX0_behind 69 = .ok (.aload_n 2, 1) := by decide +kernel
theorem dX0_behind_70 : decode cX0_behind 70 = .ok (.instanceof 111, 3) := by decide +kernel
theorem dX0_behind_73 : decode cX0_behind 73 = .ok (.ifCond .eq 7, 3) := by decide +kernel
theorem dX0_behind_76 : decode cX0_behind 76 = .ok (.iconst 3, 1) := by decide +kernel
theorem dX0_behind_77 : decode cX0_behind 77 = .ok (.goto 4, 3) := by decide +kernel
theorem dX0_behind_80 : decode cX0_behind 80 = .ok (.iconst 4, 1) := by decide +kernel
theorem dX0_behind_81 : decode cX0_behind 81 = .ok (.putfield 121, 3) := by decide +kernel
theorem dX0_behind_84 : decode cX0_behind 84 = .ok (.return_, 1) := by decide +kernel
theorem dX0_told_0 : decode cX0_told 0 = .ok (.iload_n 1, 1) := by decide +kernel
theorem dX0_told_1 : decode cX0_told 1 = .ok (.tableswitch 87 0 7 #[47, 52, 57, 62, 67, 72, 77, 82], 47) := by decide +kernel
theorem dX0_told_48 : decode cX0_told 48 = .ok (.aload_n 0, 1) := by decide +kernel
theorem dX0_told_49 : decode cX0_told 49 = .ok (.getfield 83, 3) := by decide +kernel
theorem dX0_told_52 : decode cX0_told 52 = .ok (.ireturn, 1) := by decide +kernel
theorem dX0_told_53 : decode cX0_told 53 = .ok (.aload_n 0, 1) := by decide +kernel
theorem dX0_told_54 : decode cX0_told 54 = .ok (.getfield 118, 3) := by decide +kernel
theorem dX0_told_57 : decode cX0_told 57 = .ok (.ireturn, 1) := by decide +kernel
theorem dX0_told_58 : decode cX0_told 58 = .ok (.aload_n 0, 1) := by decide +kernel
theorem dX0_told_59 : decode cX0_told 59 = .ok (.getfield 136, 3) := by decide +kernel
theorem dX0_told_62 : decode cX0_told 62 = .ok (.ireturn, 1) := by decide +kernel
theorem dX0_told_63 : decode cX0_told 63 = .ok (.aload_n 0, 1) := by decide +kernel
theorem dX0_told_64 : decode cX0_told 64 = .ok (.getfield 121, 3) := by decide +kernel
theorem dX0_told_67 : decode cX0_told 67 = .ok (.ireturn, 1) := by decide +kernel
theorem dX0_told_68 : decode cX0_told 68 = .ok (.aload_n 0, 1) := by decide +kernel
theorem dX0_told_69 : decode cX0_told 69 = .ok (.getfield 25, 3) := by decide +kernel
theorem dX0_told_72 : decode cX0_told 72 = .ok (.ireturn, 1) := by decide +kernel
theorem dX0_told_73 : decode cX0_told 73 = .ok (.aload_n 0, 1) := by decide +kernel
theorem dX0_told_74 : decode cX0_told 74 = .ok (.getfield 86, 3) := by decide +kernel
theorem dX0_told_77 : decode cX0_told 77 = .ok (.ireturn, 1) := by decide +kernel
theorem dX0_told_78 : decode cX0_told 78 = .ok (.aload_n 0, 1) := by decide +kernel
theorem dX0_told_79 : decode cX0_told 79 = .ok (.getfield 65, 3) := by decide +kernel
theorem dX0_told_82 : decode cX0_told 82 = .ok (.ireturn, 1) := by decide +kernel
theorem dX0_told_83 : decode cX0_told 83 = .ok (.aload_n 0, 1) := by decide +kernel
theorem dX0_told_84 : decode cX0_told 84 = .ok (.getfield 53, 3) := by decide +kernel
theorem dX0_told_87 : decode cX0_told 87 = .ok (.ireturn, 1) := by decide +kernel
theorem dX0_told_88 : decode cX0_told 88 = .ok (.bipush (-101), 2) := by decide +kernel
theorem dX0_told_90 : decode cX0_told 90 = .ok (.ireturn, 1) := by decide +kernel
theorem dX0_note_0 : decode cX0_note 0 = .ok (.iload_n 1, 1) := by decide +kernel
theorem dX0_note_1 : decode cX0_note 1 = .ok (.iconst 0, 1) := by decide +kernel
theorem dX0_note_2 : decode cX0_note 2 = .ok (.aload_n 0, 1) := by decide +kernel
theorem dX0_note_3 : decode cX0_note 3 = .ok (.getfield 53, 3) := by decide +kernel
theorem dX0_note_6 : decode cX0_note 6 = .ok (.iconst 1, 1) := by decide +kernel
theorem dX0_note_7 : decode cX0_note 7 = .ok (.isub, 1) := by decide +kernel
theorem dX0_note_8 : decode cX0_note 8 = .ok (.invokestatic 30, 3) := by decide +kernel
theorem dX0_note_11 : decode cX0_note 11 = .ok (.ifCond .eq 12, 3) := by decide +kernel
theorem dX0_note_14 : decode cX0_note 14 = .ok (.aload_n 0, 1) := by decide +kernel
theorem dX0_note_15 : decode cX0_note 15 = .ok (.getfield 21, 3) := by decide +kernel
theorem dX0_note_18 : decode cX0_note 18 = .ok (.iload_n 1, 1) := by decide +kernel
theorem dX0_note_19 : decode cX0_note 19 = .ok (.iaload, 1) := by decide +kernel
theorem dX0_note_20 : decode cX0_note 20 = .ok (.goto 5, 3) := by decide +kernel
theorem dX0_note_23 : decode cX0_note 23 = .ok (.bipush (-101), 2) := by decide +kernel
theorem dX0_note_25 : decode cX0_note 25 = .ok (.ireturn, 1) := by decide +kernel
theorem dX0_held_0 : decode cX0_held 0 = .ok (.iload_n 1, 1) := by decide +kernel
theorem dX0_held_1 : decode cX0_held 1 = .ok (.ifCond .ne 10, 3) := by decide +kernel
theorem dX0_held_4 : decode cX0_held 4 = .ok (.aload_n 0, 1) := by decide +kernel
theorem dX0_held_5 : decode cX0_held 5 = .ok (.getfield 62, 3) := by decide +kernel
theorem dX0_held_8 : decode cX0_held 8 = .ok (.goto 29, 3) := by decide +kernel
theorem dX0_held_11 : decode cX0_held 11 = .ok (.iload_n 1, 1) := by decide +kernel
theorem dX0_held_12 : decode cX0_held 12 = .ok (.iconst 1, 1) := by decide +kernel
theorem dX0_held_13 : decode cX0_held 13 = .ok (.if_icmp .ne 10, 3) := by decide +kernel
theorem dX0_held_16 : decode cX0_held 16 = .ok (.aload_n 0, 1) := by decide +kernel
theorem dX0_held_17 : decode cX0_held 17 = .ok (.getfield 71, 3) := by decide +kernel
theorem dX0_held_20 : decode cX0_held 20 = .ok (.goto 17, 3) := by decide +kernel
theorem dX0_held_23 : decode cX0_held 23 = .ok (.iload_n 1, 1) := by decide +kernel
theorem dX0_held_24 : decode cX0_held 24 = .ok (.iconst 2, 1) := by decide +kernel
theorem dX0_held_25 : decode cX0_held 25 = .ok (.if_icmp .ne 10, 3) := by decide +kernel
theorem dX0_held_28 : decode cX0_held 28 = .ok (.aload_n 0, 1) := by decide +kernel
theorem dX0_held_29 : decode cX0_held 29 = .ok (.getfield 74, 3) := by decide +kernel
theorem dX0_held_32 : decode cX0_held 32 = .ok (.goto 5, 3) := by decide +kernel
theorem dX0_held_35 : decode cX0_held 35 = .ok (.bipush (-101), 2) := by decide +kernel
theorem dX0_held_37 : decode cX0_held 37 = .ok (.ireturn, 1) := by decide +kernel
theorem dX0_cells_0 : decode cX0_cells 0 = .ok (.iload_n 1, 1) := by decide +kernel
theorem dX0_cells_1 : decode cX0_cells 1 = .ok (.invokestatic 34, 3) := by decide +kernel
theorem dX0_cells_4 : decode cX0_cells 4 = .ok (.ifCond .eq 15, 3) := by decide +kernel
theorem dX0_cells_7 : decode cX0_cells 7 = .ok (.aload_n 0, 1) := by decide +kernel
theorem dX0_cells_8 : decode cX0_cells 8 = .ok (.getfield 11, 3) := by decide +kernel
theorem dX0_cells_11 : decode cX0_cells 11 = .ok (.iload_n 1, 1) := by decide +kernel
theorem dX0_cells_12 : decode cX0_cells 12 = .ok (.aaload, 1) := by decide +kernel
theorem dX0_cells_13 : decode cX0_cells 13 = .ok (.getfield 38, 3) := by decide +kernel
theorem dX0_cells_16 : decode cX0_cells 16 = .ok (.goto 5, 3) := by decide +kernel
theorem dX0_cells_19 : decode cX0_cells 19 = .ok (.bipush (-101), 2) := by decide +kernel
theorem dX0_cells_21 : decode cX0_cells 21 = .ok (.ireturn, 1) := by decide +kernel
end
section
set_option maxRecDepth 100000
theorem dX2_init_0 : decode cX2_init 0 = .ok (.aload_n 0, 1) := by decide +kernel
theorem dX2_init_1 : decode cX2_init 1 = .ok (.invokespecial 1, 3) := by decide +kernel
theorem dX2_init_4 : decode cX2_init 4 = .ok (.aload_n 0, 1) := by decide +kernel
theorem dX2_init_5 : decode cX2_init 5 = .ok (.bipush 8, 2) := by decide +kernel
theorem dX2_init_7 : decode cX2_init 7 = .ok (.newarray .int, 2) := by decide +kernel
theorem dX2_init_9 : decode cX2_init 9 = .ok (.putfield 7, 3) := by decide +kernel
theorem dX2_init_12 : decode cX2_init 12 = .ok (.aload_n 0, 1) := by decide +kernel
theorem dX2_init_13 : decode cX2_init 13 = .ok (.bipush 96, 2) := by decide +kernel
theorem dX2_init_15 : decode cX2_init 15 = .ok (.newarray .int, 2) := by decide +kernel
theorem dX2_init_17 : decode cX2_init 17 = .ok (.putfield 13, 3) := by decide +kernel
theorem dX2_init_20 : decode cX2_init 20 = .ok (.aload_n 0, 1) := by decide +kernel
theorem dX2_init_21 : decode cX2_init 21 = .ok (.iconst 4, 1) := by decide +kernel
theorem dX2_init_22 : decode cX2_init 22 = .ok (.newarray .int, 2) := by decide +kernel
theorem dX2_init_24 : decode cX2_init 24 = .ok (.putfield 16, 3) := by decide +kernel
theorem dX2_init_27 : decode cX2_init 27 = .ok (.aload_n 0, 1) := by decide +kernel
theorem dX2_init_28 : decode cX2_init 28 = .ok (.iconst (-1), 1) := by decide +kernel
theorem dX2_init_29 : decode cX2_init 29 = .ok (.putfield 19, 3) := by decide +kernel
theorem dX2_init_32 : decode cX2_init 32 = .ok (.aload_n 0, 1) := by decide +kernel
theorem dX2_init_33 : decode cX2_init 33 = .ok (.sipush 6000, 3) := by decide +kernel
theorem dX2_init_36 : decode cX2_init 36 = .ok (.newarray .int, 2) := by decide +kernel
theorem dX2_init_38 : decode cX2_init 38 = .ok (.putfield 23, 3) := by decide +kernel
theorem dX2_init_41 : decode cX2_init 41 = .ok (.aload_n 0, 1) := by decide +kernel
theorem dX2_init_42 : decode cX2_init 42 = .ok (.bipush 6, 2) := by decide +kernel
theorem dX2_init_44 : decode cX2_init 44 = .ok (.newarray .int, 2) := by decide +kernel
theorem dX2_init_46 : decode cX2_init 46 = .ok (.putfield 26, 3) := by decide +kernel
theorem dX2_init_49 : decode cX2_init 49 = .ok (.aload_n 0, 1) := by decide +kernel
theorem dX2_init_50 : decode cX2_init 50 = .ok (.bipush 6, 2) := by decide +kernel
theorem dX2_init_52 : decode cX2_init 52 = .ok (.newarray .int, 2) := by decide +kernel
theorem dX2_init_54 : decode cX2_init 54 = .ok (.putfield 29, 3) := by decide +kernel
theorem dX2_init_57 : decode cX2_init 57 = .ok (.return_, 1) := by decide +kernel
theorem dX2_cell_0 : decode cX2_cell 0 = .ok (.iload_n 1, 1) := by decide +kernel
theorem dX2_cell_1 : decode cX2_cell 1 = .ok (.invokestatic 36, 3) := by decide +kernel
theorem dX2_cell_4 : decode cX2_cell 4 = .ok (.ifCond .ne 6, 3) := by decide +kernel
theorem dX2_cell_7 : decode cX2_cell 7 = .ok (.bipush (-101), 2) := by decide +kernel
theorem dX2_cell_9 : decode cX2_cell 9 = .ok (.ireturn, 1) := by decide +kernel
theorem dX2_cell_10 : decode cX2_cell 10 = .ok (.iload_n 2, 1) := by decide +kernel
theorem dX2_cell_11 : decode cX2_cell 11 = .ok (.invokestatic 40, 3) := by decide +kernel
theorem dX2_cell_14 : decode cX2_cell 14 = .ok (.ifCond .ne 6, 3) := by decide +kernel
theorem dX2_cell_17 : decode cX2_cell 17 = .ok (.bipush (-102), 2) := by decide +kernel
theorem dX2_cell_19 : decode cX2_cell 19 = .ok (.ireturn, 1) := by decide +kernel
theorem dX2_cell_20 : decode cX2_cell 20 = .ok (.aload_n 0, 1) := by decide +kernel
theorem dX2_cell_21 : decode cX2_cell 21 = .ok (.getfield 7, 3) := by decide +kernel
theorem dX2_cell_24 : decode cX2_cell 24 = .ok (.iload_n 1, 1) := by decide +kernel
theorem dX2_cell_25 : decode cX2_cell 25 = .ok (.iaload, 1) := by decide +kernel
theorem dX2_cell_26 : decode cX2_cell 26 = .ok (.bipush 12, 2) := by decide +kernel
theorem dX2_cell_28 : decode cX2_cell 28 = .ok (.if_icmp .ne 6, 3) := by decide +kernel
theorem dX2_cell_31 : decode cX2_cell 31 = .ok (.bipush (-103), 2) := by decide +kernel
theorem dX2_cell_33 : decode cX2_cell 33 = .ok (.ireturn, 1) := by decide +kernel
theorem dX2_cell_34 : decode cX2_cell 34 = .ok (.aload_n 0, 1) := by decide +kernel
theorem dX2_cell_35 : decode cX2_cell 35 = .ok (.getfield 13, 3) := by decide +kernel
theorem dX2_cell_38 : decode cX2_cell 38 = .ok (.bipush 12, 2) := by decide +kernel
theorem dX2_cell_40 : decode cX2_cell 40 = .ok (.iload_n 1, 1) := by decide +kernel
theorem dX2_cell_41 : decode cX2_cell 41 = .ok (.imul, 1) := by decide +kernel
theorem dX2_cell_42 : decode cX2_cell 42 = .ok (.aload_n 0, 1) := by decide +kernel
theorem dX2_cell_43 : decode cX2_cell 43 = .ok (.getfield 7, 3) := by decide +kernel
theorem dX2_cell_46 : decode cX2_cell 46 = .ok (.iload_n 1, 1) := by decide +kernel
theorem dX2_cell_47 : decode cX2_cell 47 = .ok (.iaload, 1) := by decide +kernel
theorem dX2_cell_48 : decode cX2_cell 48 = .ok (.iadd, 1) := by decide +kernel
theorem dX2_cell_49 : decode cX2_cell 49 = .ok (.iload_n 2, 1) := by decide +kernel
theorem dX2_cell_50 : decode cX2_cell 50 = .ok (.iastore, 1) := by decide +kernel
theorem dX2_cell_51 : decode cX2_cell 51 = .ok (.aload_n 0, 1) := by decide +kernel
theorem dX2_cell_52 : decode cX2_cell 52 = .ok (.getfield 7, 3) := by decide +kernel
theorem dX2_cell_55 : decode cX2_cell 55 = .ok (.iload_n 1, 1) := by decide +kernel
theorem dX2_cell_56 : decode cX2_cell 56 = .ok (.dup2, 1) := by decide +kernel
theorem dX2_cell_57 : decode cX2_cell 57 = .ok (.iaload, 1) := by decide +kernel
theorem dX2_cell_58 : decode cX2_cell 58 = .ok (.iconst 1, 1) := by decide +kernel
theorem dX2_cell_59 : decode cX2_cell 59 = .ok (.iadd, 1) := by decide +kernel
theorem dX2_cell_60 : decode cX2_cell 60 = .ok (.iastore, 1) := by decide +kernel
theorem dX2_cell_61 : decode cX2_cell 61 = .ok (.aload_n 0, 1) := by decide +kernel
theorem dX2_cell_62 : decode cX2_cell 62 = .ok (.getfield 7, 3) := by decide +kernel
theorem dX2_cell_65 : decode cX2_cell 65 = .ok (.iload_n 1, 1) := by decide +kernel
theorem dX2_cell_66 : decode cX2_cell 66 = .ok (.iaload, 1) := by decide +kernel
theorem dX2_cell_67 : decode cX2_cell 67 = .ok (.iconst 1, 1) := by decide +kernel
theorem dX2_cell_68 : decode cX2_cell 68 = .ok (.isub, 1) := by decide +kernel
theorem dX2_cell_69 : decode cX2_cell 69 = .ok (.ireturn, 1) := by decide +kernel
theorem dX2_isRack_0 : decode cX2_isRack 0 = .ok (.iload_n 0, 1) := by decide +kernel
theorem dX2_isRack_1 : decode cX2_isRack 1 = .ok (.iconst 0, 1) := by decide +kernel
theorem dX2_isRack_2 : decode cX2_isRack 2 = .ok (.bipush 7, 2) := by decide +kernel
theorem dX2_isRack_4 : decode cX2_isRack 4 = .ok (.invokestatic 32, 3) := by decide +kernel
theorem dX2_isRack_7 : decode cX2_isRack 7 = .ok (.ireturn, 1) := by decide +kernel
theorem dX2_in_0 : decode cX2_in 0 = .ok (.iload_n 0, 1) := by decide +kernel
theorem dX2_in_1 : decode cX2_in 1 = .ok (.iload_n 1, 1) := by decide +kernel
theorem dX2_in_2 : decode cX2_in 2 = .ok (.if_icmp .lt 12, 3) := by decide +kernel
theorem dX2_in_5 : decode cX2_in 5 = .ok (.iload_n 0, 1) := by decide +kernel
theorem dX2_in_6 : decode cX2_in 6 = .ok (.iload_n 2, 1) := by decide +kernel
theorem dX2_in_7 : decode cX2_in 7 = .ok (.if_icmp .gt 7, 3) := by decide +kernel
theorem dX2_in_10 : decode cX2_in 10 = .ok (.iconst 1, 1) := by decide +kernel
theorem dX2_in_11 : decode cX2_in 11 = .ok (.goto 4, 3) := by decide +kernel
theorem dX2_in_14 : decode cX2_in 14 = .ok (.iconst 0, 1) := by decide +kernel
theorem dX2_in_15 : decode cX2_in 15 = .ok (.ireturn, 1) := by decide +kernel
theorem dX2_isCell_0 : decode cX2_isCell 0 = .ok (.iload_n 0, 1) := by decide +kernel
theorem dX2_isCell_1 : decode cX2_isCell 1 = .ok (.iconst 1, 1) := by decide +kernel
theorem dX2_isCell_2 : decode cX2_isCell 2 = .ok (.sipush 999, 3) := by decide +kernel
theorem dX2_isCell_5 : decode cX2_isCell 5 = .ok (.invokestatic 32, 3) := by decide +kernel
theorem dX2_isCell_8 : decode cX2_isCell 8 = .ok (.ifCond .ne 63, 3) := by decide +kernel
theorem dX2_isCell_11 : decode cX2_isCell 11 = .ok (.iload_n 0, 1) := by decide +kernel
theorem dX2_isCell_12 : decode cX2_isCell 12 = .ok (.bipush (-15), 2) := by decide +kernel
theorem dX2_isCell_14 : decode cX2_isCell 14 = .ok (.bipush (-10), 2) := by decide +kernel
theorem dX2_isCell_16 : decode cX2_isCell 16 = .ok (.invokestatic 32, 3) := by decide +kernel
theorem dX2_isCell_19 : decode cX2_isCell 19 = .ok (.ifCond .ne 52, 3) := by decide +kernel
theorem dX2_isCell_22 : decode cX2_isCell 22 = .ok (.iload_n 0, 1) := by decide +kernel
theorem dX2_isCell_23 : decode cX2_isCell 23 = .ok (.bipush (-4), 2) := by decide +kernel
theorem dX2_isCell_25 : decode cX2_isCell 25 = .ok (.iconst (-1), 1) := by decide +kernel
theorem dX2_isCell_26 : decode cX2_isCell 26 = .ok (.invokestatic 32, 3) := by decide +kernel
theorem dX2_isCell_29 : decode cX2_isCell 29 = .ok (.ifCond .ne 42, 3) := by decide +kernel
theorem dX2_isCell_32 : decode cX2_isCell 32 = .ok (.iload_n 0, 1) := by decide +kernel
theorem dX2_isCell_33 : decode cX2_isCell 33 = .ok (.sipush 1000, 3) := by decide +kernel
theorem dX2_isCell_36 : decode cX2_isCell 36 = .ok (.sipush 1007, 3) := by decide +kernel
theorem dX2_isCell_39 : decode cX2_isCell 39 = .ok (.invokestatic 32, 3) := by decide +kernel
theorem dX2_isCell_42 : decode cX2_isCell 42 = .ok (.ifCond .ne 29, 3) := by decide +kernel
theorem dX2_isCell_45 : decode cX2_isCell 45 = .ok (.iload_n 0, 1) := by decide +kernel
theorem dX2_isCell_46 : decode cX2_isCell 46 = .ok (.sipush 2000, 3) := by decide +kernel
theorem dX2_isCell_49 : decode cX2_isCell 49 = .ok (.sipush 2007, 3) := by decide +kernel
theorem dX2_isCell_52 : decode cX2_isCell 52 = .ok (.invokestatic 32, 3) := by decide +kernel
theorem dX2_isCell_55 : decode cX2_isCell 55 = .ok (.ifCond .ne 16, 3) := by decide +kernel
theorem dX2_isCell_58 : decode cX2_isCell 58 = .ok (.iload_n 0, 1) := by decide +kernel
theorem dX2_isCell_59 : decode cX2_isCell 59 = .ok (.sipush 3000, 3) := by decide +kernel
theorem dX2_isCell_62 : decode cX2_isCell 62 = .ok (.sipush 3007, 3) := by decide +kernel
theorem dX2_isCell_65 : decode cX2_isCell 65 = .ok (.invokestatic 32, 3) := by decide +kernel
theorem dX2_isCell_68 : decode cX2_isCell 68 = .ok (.ifCond .eq 7, 3) := by decide +kernel
theorem dX2_isCell_71 : decode cX2_isCell 71 = .ok (.iconst 1, 1) := by decide +kernel
theorem dX2_isCell_72 : decode cX2_isCell 72 = .ok (.goto 4, 3) := by decide +kernel
theorem dX2_isCell_75 : decode cX2_isCell 75 = .ok (.iconst 0, 1) := by decide +kernel
theorem dX2_isCell_76 : decode cX2_isCell 76 = .ok (.ireturn, 1) := by decide +kernel
theorem dX2_clear_0 : decode cX2_clear 0 = .ok (.iload_n 1, 1) := by decide +kernel
theorem dX2_clear_1 : decode cX2_clear 1 = .ok (.invokestatic 36, 3) := by decide +kernel
theorem dX2_clear_4 : decode cX2_clear 4 = .ok (.ifCond .ne 6, 3) := by decide +kernel
theorem dX2_clear_7 : decode cX2_clear 7 = .ok (.bipush (-101), 2) := by decide +kernel
theorem dX2_clear_9 : decode cX2_clear 9 = .ok (.ireturn, 1) := by decide +kernel
theorem dX2_clear_10 : decode cX2_clear 10 = .ok (.aload_n 0, 1) := by decide +kernel
theorem dX2_clear_11 : decode cX2_clear 11 = .ok (.getfield 7, 3) := by decide +kernel
theorem dX2_clear_14 : decode cX2_clear 14 = .ok (.iload_n 1, 1) := by decide +kernel
theorem dX2_clear_15 : decode cX2_clear 15 = .ok (.iaload, 1) := by decide +kernel
theorem dX2_clear_16 : decode cX2_clear 16 = .ok (.istore_n 2, 1) := by decide +kernel
theorem dX2_clear_17 : decode cX2_clear 17 = .ok (.aload_n 0, 1) := by decide +kernel
theorem dX2_clear_18 : decode cX2_clear 18 = .ok (.getfield 7, 3) := by decide +kernel
theorem dX2_clear_21 : decode cX2_clear 21 = .ok (.iload_n 1, 1) := by decide +kernel
theorem dX2_clear_22 : decode cX2_clear 22 = .ok (.iconst 0, 1) := by decide +kernel
theorem dX2_clear_23 : decode cX2_clear 23 = .ok (.iastore, 1) := by decide +kernel
theorem dX2_clear_24 : decode cX2_clear 24 = .ok (.iload_n 2, 1) := by decide +kernel
theorem dX2_clear_25 : decode cX2_clear 25 = .ok (.ireturn, 1) := by decide +kernel
theorem dX2_tare_0 : decode cX2_tare 0 = .ok (.iload_n 1, 1) := by decide +kernel
theorem dX2_tare_1 : decode cX2_tare 1 = .ok (.iconst 0, 1) := by decide +kernel
theorem dX2_tare_2 : decode cX2_tare 2 = .ok (.sipush 999, 3) := by decide +kernel
theorem dX2_tare_5 : decode cX2_tare 5 = .ok (.invokestatic 32, 3) := by decide +kernel
theorem dX2_tare_8 : decode cX2_tare 8 = .ok (.ifCond .ne 6, 3) := by decide +kernel
theorem dX2_tare_11 : decode cX2_tare 11 = .ok (.bipush (-102), 2) := by decide +kernel
theorem dX2_tare_13 : decode cX2_tare 13 = .ok (.ireturn, 1) := by decide +kernel
theorem dX2_tare_14 : decode cX2_tare 14 = .ok (.aload_n 0, 1) := by decide +kernel
theorem dX2_tare_15 : decode cX2_tare 15 = .ok (.getfield 43, 3) := by decide +kernel
theorem dX2_tare_18 : decode cX2_tare 18 = .ok (.istore_n 2, 1) := by decide +kernel
theorem dX2_tare_19 : decode cX2_tare 19 = .ok (.aload_n 0, 1) := by decide +kernel
theorem dX2_tare_20 : decode cX2_tare 20 = .ok (.iload_n 1, 1) := by decide +kernel
theorem dX2_tare_21 : decode cX2_tare 21 = .ok (.putfield 43, 3) := by decide +kernel
theorem dX2_tare_24 : decode cX2_tare 24 = .ok (.iload_n 2, 1) := by decide +kernel
theorem dX2_tare_25 : decode cX2_tare 25 = .ok (.ireturn, 1) := by decide +kernel
theorem dX2_crew_0 : decode cX2_crew 0 = .ok (.iload_n 1, 1) := by decide +kernel
theorem dX2_crew_1 : decode cX2_crew 1 = .ok (.iconst 0, 1) := by decide +kernel
theorem dX2_crew_2 : decode cX2_crew 2 = .ok (.iconst 3, 1) := by decide +kernel
theorem dX2_crew_3 : decode cX2_crew 3 = .ok (.invokestatic 32, 3) := by decide +kernel
theorem dX2_crew_6 : decode cX2_crew 6 = .ok (.ifCond .ne 6, 3) := by decide +kernel
theorem dX2_crew_9 : decode cX2_crew 9 = .ok (.bipush (-101), 2) := by decide +kernel
theorem dX2_crew_11 : decode cX2_crew 11 = .ok (.ireturn, 1) := by decide +kernel
theorem dX2_crew_12 : decode cX2_crew 12 = .ok (.iload_n 2, 1) := by decide +kernel
theorem dX2_crew_13 : decode cX2_crew 13 = .ok (.iconst 0, 1) := by decide +kernel
theorem dX2_crew_14 : decode cX2_crew 14 = .ok (.bipush 50, 2) := by decide +kernel
theorem dX2_crew_16 : decode cX2_crew 16 = .ok (.invokestatic 32, 3) := by decide +kernel
theorem dX2_crew_19 : decode cX2_crew 19 = .ok (.ifCond .ne 6, 3) := by decide +kernel
theorem dX2_crew_22 : decode cX2_crew 22 = .ok (.bipush (-102), 2) := by decide +kernel
theorem dX2_crew_24 : decode cX2_crew 24 = .ok (.ireturn, 1) := by decide +kernel
theorem dX2_crew_25 : decode cX2_crew 25 = .ok (.aload_n 0, 1) := by decide +kernel
theorem dX2_crew_26 : decode cX2_crew 26 = .ok (.getfield 16, 3) := by decide +kernel
theorem dX2_crew_29 : decode cX2_crew 29 = .ok (.iload_n 1, 1) := by decide +kernel
theorem dX2_crew_30 : decode cX2_crew 30 = .ok (.iaload, 1) := by decide +kernel
theorem dX2_crew_31 : decode cX2_crew 31 = .ok (.istore_n 3, 1) := by decide +kernel
theorem dX2_crew_32 : decode cX2_crew 32 = .ok (.aload_n 0, 1) := by decide +kernel
theorem dX2_crew_33 : decode cX2_crew 33 = .ok (.getfield 16, 3) := by decide +kernel
theorem dX2_crew_36 : decode cX2_crew 36 = .ok (.iload_n 1, 1) := by decide +kernel
theorem dX2_crew_37 : decode cX2_crew 37 = .ok (.iload_n 2, 1) := by decide +kernel
theorem dX2_crew_38 : decode cX2_crew 38 = .ok (.iastore, 1) := by decide +kernel
theorem dX2_crew_39 : decode cX2_crew 39 = .ok (.iload_n 3, 1) := by decide +kernel
theorem dX2_crew_40 : decode cX2_crew 40 = .ok (.ireturn, 1) := by decide +kernel
theorem dX2_run_0 : decode cX2_run 0 = .ok (.iload_n 1, 1) := by decide +kernel
theorem dX2_run_1 : decode cX2_run 1 = .ok (.invokestatic 36, 3) := by decide +kernel
theorem dX2_run_4 : decode cX2_run 4 = .ok (.ifCond .ne 6, 3) := by decide +kernel
theorem dX2_run_7 : decode cX2_run 7 = .ok (.bipush (-101), 2) := by decide +kernel
theorem dX2_run_9 : decode cX2_run 9 = .ok (.ireturn, 1) := by decide +kernel
theorem dX2_run_10 : decode cX2_run 10 = .ok (.aload_n 0, 1) := by decide +kernel
theorem dX2_run_11 : decode cX2_run 11 = .ok (.iload_n 2, 1) := by decide +kernel
theorem dX2_run_12 : decode cX2_run 12 = .ok (.putfield 97, 3) := by decide +kernel
theorem dX2_run_15 : decode cX2_run 15 = .ok (.aload_n 0, 1) := by decide +kernel
theorem dX2_run_16 : decode cX2_run 16 = .ok (.iconst 0, 1) := by decide +kernel
theorem dX2_run_17 : decode cX2_run 17 = .ok (.putfield 72, 3) := by decide +kernel
theorem dX2_run_20 : decode cX2_run 20 = .ok (.aload_n 0, 1) := by decide +kernel
theorem dX2_run_21 : decode cX2_run 21 = .ok (.iconst 0, 1) := by decide +kernel
theorem dX2_run_22 : decode cX2_run 22 = .ok (.invokevirtual 75, 3) := by decide +kernel
theorem dX2_run_25 : decode cX2_run 25 = .ok (.aload_n 0, 1) := by decide +kernel
theorem dX2_run_26 : decode cX2_run 26 = .ok (.iconst 0, 1) := by decide +kernel
theorem dX2_run_27 : decode cX2_run 27 = .ok (.putfield 103, 3) := by decide +kernel
theorem dX2_run_30 : decode cX2_run 30 = .ok (.aload_n 0, 1) := by decide +kernel
theorem dX2_run_31 : decode cX2_run 31 = .ok (.iconst 0, 1) := by decide +kernel
theorem dX2_run_32 : decode cX2_run 32 = .ok (.putfield 85, 3) := by decide +kernel
theorem dX2_run_35 : decode cX2_run 35 = .ok (.aload_n 0, 1) := by decide +kernel
theorem dX2_run_36 : decode cX2_run 36 = .ok (.iconst 0, 1) := by decide +kernel
theorem dX2_run_37 : decode cX2_run 37 = .ok (.putfield 46, 3) := by decide +kernel
theorem dX2_run_40 : decode cX2_run 40 = .ok (.aload_n 0, 1) := by decide +kernel
theorem dX2_run_41 : decode cX2_run 41 = .ok (.iconst 0, 1) := by decide +kernel
theorem dX2_run_42 : decode cX2_run 42 = .ok (.putfield 49, 3) := by decide +kernel
theorem dX2_run_45 : decode cX2_run 45 = .ok (.aload_n 0, 1) := by decide +kernel
theorem dX2_run_46 : decode cX2_run 46 = .ok (.iload_n 1, 1) := by decide +kernel
theorem dX2_run_47 : decode cX2_run 47 = .ok (.invokevirtual 88, 3) := by decide +kernel
theorem dX2_run_50 : decode cX2_run 50 = .ok (.aload_n 0, 1) := by decide +kernel
theorem dX2_run_51 : decode cX2_run 51 = .ok (.getfield 49, 3) := by decide +kernel
theorem dX2_run_54 : decode cX2_run 54 = .ok (.ifCond .le 47, 3) := by decide +kernel
theorem dX2_run_57 : decode cX2_run 57 = .ok (.aload_n 0, 1) := by decide +kernel
theorem dX2_run_58 : decode cX2_run 58 = .ok (.getfield 29, 3) := by decide +kernel
theorem dX2_run_61 : decode cX2_run 61 = .ok (.aload_n 0, 1) := by decide +kernel
theorem dX2_run_62 : decode cX2_run 62 = .ok (.getfield 49, 3) := by decide +kernel
theorem dX2_run_65 : decode cX2_run 65 = .ok (.iconst 1, 1) := by decide +kernel
theorem dX2_run_66 : decode cX2_run 66 = .ok (.isub, 1) := by decide +kernel
theorem dX2_run_67 : decode cX2_run 67 = .ok (.iaload, 1) := by decide +kernel
theorem dX2_run_68 : decode cX2_run 68 = .ok (.aload_n 0, 1) := by decide +kernel
theorem dX2_run_69 : decode cX2_run 69 = .ok (.getfield 7, 3) := by decide +kernel
theorem dX2_run_72 : decode cX2_run 72 = .ok (.aload_n 0, 1) := by decide +kernel
theorem dX2_run_73 : decode cX2_run 73 = .ok (.getfield 26, 3) := by decide +kernel
theorem dX2_run_76 : decode cX2_run 76 = .ok (.aload_n 0, 1) := by decide +kernel
theorem dX2_run_77 : decode cX2_run 77 = .ok (.getfield 49, 3) := by decide +kernel
theorem dX2_run_80 : decode cX2_run 80 = .ok (.iconst 1, 1) := by decide +kernel
theorem dX2_run_81 : decode cX2_run 81 = .ok (.isub, 1) := by decide +kernel
theorem dX2_run_82 : decode cX2_run 82 = .ok (.iaload, 1) := by decide +kernel
theorem dX2_run_83 : decode cX2_run 83 = .ok (.iaload, 1) := by decide +kernel
theorem dX2_run_84 : decode cX2_run 84 = .ok (.if_icmp .ne 10, 3) := by decide +kernel
theorem dX2_run_87 : decode cX2_run 87 = .ok (.aload_n 0, 1) := by decide +kernel
theorem dX2_run_88 : decode cX2_run 88 = .ok (.invokevirtual 100, 3) := by decide +kernel
theorem dX2_run_91 : decode cX2_run 91 = .ok (.goto (-41), 3) := by decide +kernel
theorem dX2_run_94 : decode cX2_run 94 = .ok (.aload_n 0, 1) := by decide +kernel
theorem dX2_run_95 : decode cX2_run 95 = .ok (.invokevirtual 118, 3) := by decide +kernel
theorem dX2_run_98 : decode cX2_run 98 = .ok (.goto (-48), 3) := by decide +kernel
theorem dX2_run_101 : decode cX2_run 101 = .ok (.aload_n 0, 1) := by decide +kernel
theorem dX2_run_102 : decode cX2_run 102 = .ok (.getfield 59, 3) := by decide +kernel
theorem dX2_run_105 : decode cX2_run 105 = .ok (.ifCond .ne 7, 3) := by decide +kernel
theorem dX2_run_108 : decode cX2_run 108 = .ok (.iconst 1, 1) := by decide +kernel
theorem dX2_run_109 : decode cX2_run 109 = .ok (.goto 4, 3) := by decide +kernel
theorem dX2_run_112 : decode cX2_run 112 = .ok (.iconst 0, 1) := by decide +kernel
theorem dX2_run_113 : decode cX2_run 113 = .ok (.ireturn, 1) := by decide +kernel
theorem dX2_fails_0 : decode cX2_fails 0 = .ok (.aload_n 0, 1) := by decide +kernel
theorem dX2_fails_1 : decode cX2_fails 1 = .ok (.iload_n 1, 1) := by decide +kernel
theorem dX2_fails_2 : decode cX2_fails 2 = .ok (.putfield 59, 3) := by decide +kernel
theorem dX2_fails_5 : decode cX2_fails 5 = .ok (.aload_n 0, 1) := by decide +kernel
theorem dX2_fails_6 : decode cX2_fails 6 = .ok (.iconst 0, 1) := by decide +kernel
theorem dX2_fails_7 : decode cX2_fails 7 = .ok (.putfield 62, 3) := by decide +kernel
theorem dX2_fails_10 : decode cX2_fails 10 = .ok (.aload_n 0, 1) := by decide +kernel
theorem dX2_fails_11 : decode cX2_fails 11 = .ok (.iload_n 1, 1) := by decide +kernel
theorem dX2_fails_12 : decode cX2_fails 12 = .ok (.putfield 65, 3) := by decide +kernel
theorem dX2_fails_15 : decode cX2_fails 15 = .ok (.aload_n 0, 1) := by decide +kernel
theorem dX2_fails_16 : decode cX2_fails 16 = .ok (.iconst (-1), 1) := by decide +kernel
theorem dX2_fails_17 : decode cX2_fails 17 = .ok (.putfield 19, 3) := by decide +kernel
theorem dX2_fails_20 : decode cX2_fails 20 = .ok (.return_, 1) := by decide +kernel
theorem dX2_begins_0 : decode cX2_begins 0 = .ok (.aload_n 0, 1) := by decide +kernel
theorem dX2_begins_1 : decode cX2_begins 1 = .ok (.getfield 26, 3) := by decide +kernel
theorem dX2_begins_4 : decode cX2_begins 4 = .ok (.aload_n 0, 1) := by decide +kernel
theorem dX2_begins_5 : decode cX2_begins 5 = .ok (.getfield 49, 3) := by decide +kernel
theorem dX2_begins_8 : decode cX2_begins 8 = .ok (.iload_n 1, 1) := by decide +kernel
theorem dX2_begins_9 : decode cX2_begins 9 = .ok (.iastore, 1) := by decide +kernel
theorem dX2_begins_10 : decode cX2_begins 10 = .ok (.aload_n 0, 1) := by decide +kernel
theorem dX2_begins_11 : decode cX2_begins 11 = .ok (.getfield 29, 3) := by decide +kernel
theorem dX2_begins_14 : decode cX2_begins 14 = .ok (.aload_n 0, 1) := by decide +kernel
theorem dX2_begins_15 : decode cX2_begins 15 = .ok (.getfield 49, 3) := by decide +kernel
theorem dX2_begins_18 : decode cX2_begins 18 = .ok (.iconst 0, 1) := by decide +kernel
theorem dX2_begins_19 : decode cX2_begins 19 = .ok (.iastore, 1) := by decide +kernel
theorem dX2_begins_20 : decode cX2_begins 20 = .ok (.aload_n 0, 1) := by decide +kernel
theorem dX2_begins_21 : decode cX2_begins 21 = .ok (.dup, 1) := by decide +kernel
theorem dX2_begins_22 : decode cX2_begins 22 = .ok (.getfield 49, 3) := by decide +kernel
theorem dX2_begins_25 : decode cX2_begins 25 = .ok (.iconst 1, 1) := by decide +kernel
theorem dX2_begins_26 : decode cX2_begins 26 = .ok (.iadd, 1) := by decide +kernel
theorem dX2_begins_27 : decode cX2_begins 27 = .ok (.putfield 49, 3) := by decide +kernel
theorem dX2_begins_30 : decode cX2_begins 30 = .ok (.aload_n 0, 1) := by decide +kernel
theorem dX2_begins_31 : decode cX2_begins 31 = .ok (.aload_n 0, 1) := by decide +kernel
theorem dX2_begins_32 : decode cX2_begins 32 = .ok (.getfield 49, 3) := by decide +kernel
theorem dX2_begins_35 : decode cX2_begins 35 = .ok (.aload_n 0, 1) := by decide +kernel
theorem dX2_begins_36 : decode cX2_begins 36 = .ok (.getfield 85, 3) := by decide +kernel
theorem dX2_begins_39 : decode cX2_begins 39 = .ok (.if_icmp .le 10, 3) := by decide +kernel
theorem dX2_begins_42 : decode cX2_begins 42 = .ok (.aload_n 0, 1) := by decide +kernel
theorem dX2_begins_43 : decode cX2_begins 43 = .ok (.getfield 49, 3) := by decide +kernel
theorem dX2_begins_46 : decode cX2_begins 46 = .ok (.goto 7, 3) := by decide +kernel
theorem dX2_begins_49 : decode cX2_begins 49 = .ok (.aload_n 0, 1) := by decide +kernel
theorem dX2_begins_50 : decode cX2_begins 50 = .ok (.getfield 85, 3) := by decide +kernel
theorem dX2_begins_53 : decode cX2_begins 53 = .ok (.putfield 85, 3) := by decide +kernel
theorem dX2_begins_56 : decode cX2_begins 56 = .ok (.aload_n 0, 1) := by decide +kernel
theorem dX2_begins_57 : decode cX2_begins 57 = .ok (.iconst 1, 1) := by decide +kernel
theorem dX2_begins_58 : decode cX2_begins 58 = .ok (.invokevirtual 52, 3) := by decide +kernel
theorem dX2_begins_61 : decode cX2_begins 61 = .ok (.return_, 1) := by decide +kernel
theorem dX2_writes_0 : decode cX2_writes 0 = .ok (.aload_n 0, 1) := by decide +kernel
theorem dX2_writes_1 : decode cX2_writes 1 = .ok (.getfield 23, 3) := by decide +kernel
theorem dX2_writes_4 : decode cX2_writes 4 = .ok (.aload_n 0, 1) := by decide +kernel
theorem dX2_writes_5 : decode cX2_writes 5 = .ok (.getfield 46, 3) := by decide +kernel
theorem dX2_writes_8 : decode cX2_writes 8 = .ok (.iload_n 1, 1) := by decide +kernel
theorem dX2_writes_9 : decode cX2_writes 9 = .ok (.iastore, 1) := by decide +kernel
theorem dX2_writes_10 : decode cX2_writes 10 = .ok (.aload_n 0, 1) := by decide +kernel
theorem dX2_writes_11 : decode cX2_writes 11 = .ok (.dup, 1) := by decide +kernel
theorem dX2_writes_12 : decode cX2_writes 12 = .ok (.getfield 46, 3) := by decide +kernel
theorem dX2_writes_15 : decode cX2_writes 15 = .ok (.iconst 1, 1) := by decide +kernel
theorem dX2_writes_16 : decode cX2_writes 16 = .ok (.iadd, 1) := by decide +kernel
theorem dX2_writes_17 : decode cX2_writes 17 = .ok (.putfield 46, 3) := by decide +kernel
theorem dX2_writes_20 : decode cX2_writes 20 = .ok (.return_, 1) := by decide +kernel
theorem dX2_finishes_0 : decode cX2_finishes 0 = .ok (.aload_n 0, 1) := by decide +kernel
theorem dX2_finishes_1 : decode cX2_finishes 1 = .ok (.iconst 4, 1) := by decide +kernel
theorem dX2_finishes_2 : decode cX2_finishes 2 = .ok (.invokevirtual 52, 3) := by decide +kernel
theorem dX2_finishes_5 : decode cX2_finishes 5 = .ok (.aload_n 0, 1) := by decide +kernel
theorem dX2_finishes_6 : decode cX2_finishes 6 = .ok (.dup, 1) := by decide +kernel
theorem dX2_finishes_7 : decode cX2_finishes 7 = .ok (.getfield 72, 3) := by decide +kernel
theorem dX2_finishes_10 : decode cX2_finishes 10 = .ok (.iconst 1, 1) := by decide +kernel
theorem dX2_finishes_11 : decode cX2_finishes 11 = .ok (.iadd, 1) := by decide +kernel
theorem dX2_finishes_12 : decode cX2_finishes 12 = .ok (.putfield 72, 3) := by decide +kernel
theorem dX2_finishes_15 : decode cX2_finishes 15 = .ok (.aload_n 0, 1) := by decide +kernel
theorem dX2_finishes_16 : decode cX2_finishes 16 = .ok (.invokevirtual 94, 3) := by decide +kernel
theorem dX2_finishes_19 : decode cX2_finishes 19 = .ok (.return_, 1) := by decide +kernel
theorem dX2_ends_0 : decode cX2_ends 0 = .ok (.aload_n 0, 1) := by decide +kernel
theorem dX2_ends_1 : decode cX2_ends 1 = .ok (.iconst (-1), 1) := by decide +kernel
theorem dX2_ends_2 : decode cX2_ends 2 = .ok (.invokevirtual 52, 3) := by decide +kernel
theorem dX2_ends_5 : decode cX2_ends 5 = .ok (.aload_n 0, 1) := by decide +kernel
theorem dX2_ends_6 : decode cX2_ends 6 = .ok (.dup, 1) := by decide +kernel
theorem dX2_ends_7 : decode cX2_ends 7 = .ok (.getfield 49, 3) := by decide +kernel
theorem dX2_ends_10 : decode cX2_ends 10 = .ok (.iconst 1, 1) := by decide +kernel
theorem dX2_ends_11 : decode cX2_ends 11 = .ok (.isub, 1) := by decide +kernel
theorem dX2_ends_12 : decode cX2_ends 12 = .ok (.putfield 49, 3) := by decide +kernel
theorem dX2_ends_15 : decode cX2_ends 15 = .ok (.aload_n 0, 1) := by decide +kernel
theorem dX2_ends_16 : decode cX2_ends 16 = .ok (.getfield 49, 3) := by decide +kernel
theorem dX2_ends_19 : decode cX2_ends 19 = .ok (.ifCond .le 7, 3) := by decide +kernel
theorem dX2_ends_22 : decode cX2_ends 22 = .ok (.aload_n 0, 1) := by decide +kernel
theorem dX2_ends_23 : decode cX2_ends 23 = .ok (.invokevirtual 82, 3) := by decide +kernel
theorem dX2_ends_26 : decode cX2_ends 26 = .ok (.return_, 1) := by decide +kernel
theorem dX2_passes_0 : decode cX2_passes 0 = .ok (.aload_n 0, 1) := by decide +kernel
theorem dX2_passes_1 : decode cX2_passes 1 = .ok (.invokevirtual 56, 3) := by decide +kernel
theorem dX2_passes_4 : decode cX2_passes 4 = .ok (.aload_n 0, 1) := by decide +kernel
theorem dX2_passes_5 : decode cX2_passes 5 = .ok (.iconst 5, 1) := by decide +kernel
theorem dX2_passes_6 : decode cX2_passes 6 = .ok (.invokevirtual 52, 3) := by decide +kernel
theorem dX2_passes_9 : decode cX2_passes 9 = .ok (.aload_n 0, 1) := by decide +kernel
theorem dX2_passes_10 : decode cX2_passes 10 = .ok (.getfield 29, 3) := by decide +kernel
theorem dX2_passes_13 : decode cX2_passes 13 = .ok (.aload_n 0, 1) := by decide +kernel
theorem dX2_passes_14 : decode cX2_passes 14 = .ok (.getfield 49, 3) := by decide +kernel
end
section
set_option maxRecDepth 100000
theorem dX2_passes_17 : decode cX2_passes 17 = .ok (.iconst 1, 1) := by decide +kernel
theorem dX2_passes_18 : decode cX2_passes 18 = .ok (.isub, 1) := by decide +kernel
theorem dX2_passes_19 : decode cX2_passes 19 = .ok (.dup2, 1) := by decide +kernel
theorem dX2_passes_20 : decode cX2_passes 20 = .ok (.iaload, 1) := by decide +kernel
theorem dX2_passes_21 : decode cX2_passes 21 = .ok (.iconst 1, 1) := by decide +kernel
theorem dX2_passes_22 : decode cX2_passes 22 = .ok (.iadd, 1) := by decide +kernel
theorem dX2_passes_23 : decode cX2_passes 23 = .ok (.iastore, 1) := by decide +kernel
theorem dX2_passes_24 : decode cX2_passes 24 = .ok (.return_, 1) := by decide +kernel
theorem dX2_closes_0 : decode cX2_closes 0 = .ok (.aload_n 0, 1) := by decide +kernel
theorem dX2_closes_1 : decode cX2_closes 1 = .ok (.bipush (-3), 2) := by decide +kernel
theorem dX2_closes_3 : decode cX2_closes 3 = .ok (.invokevirtual 52, 3) := by decide +kernel
theorem dX2_closes_6 : decode cX2_closes 6 = .ok (.aload_n 0, 1) := by decide +kernel
theorem dX2_closes_7 : decode cX2_closes 7 = .ok (.bipush (-2), 2) := by decide +kernel
theorem dX2_closes_9 : decode cX2_closes 9 = .ok (.invokevirtual 52, 3) := by decide +kernel
theorem dX2_closes_12 : decode cX2_closes 12 = .ok (.return_, 1) := by decide +kernel
theorem dX2_doCell_0 : decode cX2_doCell 0 = .ok (.aload_n 0, 1) := by decide +kernel
theorem dX2_doCell_1 : decode cX2_doCell 1 = .ok (.iconst 2, 1) := by decide +kernel
theorem dX2_doCell_2 : decode cX2_doCell 2 = .ok (.invokevirtual 52, 3) := by decide +kernel
theorem dX2_doCell_5 : decode cX2_doCell 5 = .ok (.aload_n 0, 1) := by decide +kernel
theorem dX2_doCell_6 : decode cX2_doCell 6 = .ok (.iconst 3, 1) := by decide +kernel
theorem dX2_doCell_7 : decode cX2_doCell 7 = .ok (.invokevirtual 52, 3) := by decide +kernel
theorem dX2_doCell_10 : decode cX2_doCell 10 = .ok (.aload_n 0, 1) := by decide +kernel
theorem dX2_doCell_11 : decode cX2_doCell 11 = .ok (.getfield 103, 3) := by decide +kernel
theorem dX2_doCell_14 : decode cX2_doCell 14 = .ok (.sipush 300, 3) := by decide +kernel
theorem dX2_doCell_17 : decode cX2_doCell 17 = .ok (.if_icmp .ne 14, 3) := by decide +kernel
theorem dX2_doCell_20 : decode cX2_doCell 20 = .ok (.aload_n 0, 1) := by decide +kernel
theorem dX2_doCell_21 : decode cX2_doCell 21 = .ok (.bipush 7, 2) := by decide +kernel
theorem dX2_doCell_23 : decode cX2_doCell 23 = .ok (.invokevirtual 75, 3) := by decide +kernel
theorem dX2_doCell_26 : decode cX2_doCell 26 = .ok (.aload_n 0, 1) := by decide +kernel
theorem dX2_doCell_27 : decode cX2_doCell 27 = .ok (.invokevirtual 91, 3) := by decide +kernel
theorem dX2_doCell_30 : decode cX2_doCell 30 = .ok (.return_, 1) := by decide +kernel
theorem dX2_doCell_31 : decode cX2_doCell 31 = .ok (.aload_n 0, 1) := by decide +kernel
theorem dX2_doCell_32 : decode cX2_doCell 32 = .ok (.dup, 1) := by decide +kernel
theorem dX2_doCell_33 : decode cX2_doCell 33 = .ok (.getfield 103, 3) := by decide +kernel
theorem dX2_doCell_36 : decode cX2_doCell 36 = .ok (.iconst 1, 1) := by decide +kernel
theorem dX2_doCell_37 : decode cX2_doCell 37 = .ok (.iadd, 1) := by decide +kernel
theorem dX2_doCell_38 : decode cX2_doCell 38 = .ok (.putfield 103, 3) := by decide +kernel
theorem dX2_doCell_41 : decode cX2_doCell 41 = .ok (.aload_n 0, 1) := by decide +kernel
theorem dX2_doCell_42 : decode cX2_doCell 42 = .ok (.invokevirtual 68, 3) := by decide +kernel
theorem dX2_doCell_45 : decode cX2_doCell 45 = .ok (.istore_n 1, 1) := by decide +kernel
theorem dX2_doCell_46 : decode cX2_doCell 46 = .ok (.iload_n 1, 1) := by decide +kernel
theorem dX2_doCell_47 : decode cX2_doCell 47 = .ok (.sipush 1000, 3) := by decide +kernel
theorem dX2_doCell_50 : decode cX2_doCell 50 = .ok (.if_icmp .lt 15, 3) := by decide +kernel
theorem dX2_doCell_53 : decode cX2_doCell 53 = .ok (.aload_n 0, 1) := by decide +kernel
theorem dX2_doCell_54 : decode cX2_doCell 54 = .ok (.iload_n 1, 1) := by decide +kernel
theorem dX2_doCell_55 : decode cX2_doCell 55 = .ok (.sipush 1000, 3) := by decide +kernel
theorem dX2_doCell_58 : decode cX2_doCell 58 = .ok (.irem, 1) := by decide +kernel
theorem dX2_doCell_59 : decode cX2_doCell 59 = .ok (.invokevirtual 106, 3) := by decide +kernel
theorem dX2_doCell_62 : decode cX2_doCell 62 = .ok (.goto 37, 3) := by decide +kernel
theorem dX2_doCell_65 : decode cX2_doCell 65 = .ok (.iload_n 1, 1) := by decide +kernel
theorem dX2_doCell_66 : decode cX2_doCell 66 = .ok (.ifCond .le 11, 3) := by decide +kernel
theorem dX2_doCell_69 : decode cX2_doCell 69 = .ok (.aload_n 0, 1) := by decide +kernel
theorem dX2_doCell_70 : decode cX2_doCell 70 = .ok (.iload_n 1, 1) := by decide +kernel
theorem dX2_doCell_71 : decode cX2_doCell 71 = .ok (.invokevirtual 109, 3) := by decide +kernel
theorem dX2_doCell_74 : decode cX2_doCell 74 = .ok (.goto 25, 3) := by decide +kernel
theorem dX2_doCell_77 : decode cX2_doCell 77 = .ok (.iload_n 1, 1) := by decide +kernel
theorem dX2_doCell_78 : decode cX2_doCell 78 = .ok (.bipush (-9), 2) := by decide +kernel
theorem dX2_doCell_80 : decode cX2_doCell 80 = .ok (.if_icmp .ge 14, 3) := by decide +kernel
theorem dX2_doCell_83 : decode cX2_doCell 83 = .ok (.aload_n 0, 1) := by decide +kernel
theorem dX2_doCell_84 : decode cX2_doCell 84 = .ok (.bipush (-10), 2) := by decide +kernel
theorem dX2_doCell_86 : decode cX2_doCell 86 = .ok (.iload_n 1, 1) := by decide +kernel
theorem dX2_doCell_87 : decode cX2_doCell 87 = .ok (.isub, 1) := by decide +kernel
theorem dX2_doCell_88 : decode cX2_doCell 88 = .ok (.invokevirtual 112, 3) := by decide +kernel
theorem dX2_doCell_91 : decode cX2_doCell 91 = .ok (.goto 8, 3) := by decide +kernel
theorem dX2_doCell_94 : decode cX2_doCell 94 = .ok (.aload_n 0, 1) := by decide +kernel
theorem dX2_doCell_95 : decode cX2_doCell 95 = .ok (.iload_n 1, 1) := by decide +kernel
theorem dX2_doCell_96 : decode cX2_doCell 96 = .ok (.invokevirtual 115, 3) := by decide +kernel
theorem dX2_doCell_99 : decode cX2_doCell 99 = .ok (.return_, 1) := by decide +kernel
theorem dX2_up_0 : decode cX2_up 0 = .ok (.iconst 1, 1) := by decide +kernel
theorem dX2_up_1 : decode cX2_up 1 = .ok (.istore_n 1, 1) := by decide +kernel
theorem dX2_up_2 : decode cX2_up 2 = .ok (.iload_n 1, 1) := by decide +kernel
theorem dX2_up_3 : decode cX2_up 3 = .ok (.ifCond .eq 45, 3) := by decide +kernel
theorem dX2_up_6 : decode cX2_up 6 = .ok (.aload_n 0, 1) := by decide +kernel
theorem dX2_up_7 : decode cX2_up 7 = .ok (.invokevirtual 56, 3) := by decide +kernel
theorem dX2_up_10 : decode cX2_up 10 = .ok (.aload_n 0, 1) := by decide +kernel
theorem dX2_up_11 : decode cX2_up 11 = .ok (.iconst (-1), 1) := by decide +kernel
theorem dX2_up_12 : decode cX2_up 12 = .ok (.invokevirtual 52, 3) := by decide +kernel
theorem dX2_up_15 : decode cX2_up 15 = .ok (.aload_n 0, 1) := by decide +kernel
theorem dX2_up_16 : decode cX2_up 16 = .ok (.dup, 1) := by decide +kernel
theorem dX2_up_17 : decode cX2_up 17 = .ok (.getfield 49, 3) := by decide +kernel
theorem dX2_up_20 : decode cX2_up 20 = .ok (.iconst 1, 1) := by decide +kernel
theorem dX2_up_21 : decode cX2_up 21 = .ok (.isub, 1) := by decide +kernel
theorem dX2_up_22 : decode cX2_up 22 = .ok (.putfield 49, 3) := by decide +kernel
theorem dX2_up_25 : decode cX2_up 25 = .ok (.aload_n 0, 1) := by decide +kernel
theorem dX2_up_26 : decode cX2_up 26 = .ok (.getfield 49, 3) := by decide +kernel
theorem dX2_up_29 : decode cX2_up 29 = .ok (.ifCond .le 14, 3) := by decide +kernel
theorem dX2_up_32 : decode cX2_up 32 = .ok (.aload_n 0, 1) := by decide +kernel
theorem dX2_up_33 : decode cX2_up 33 = .ok (.invokevirtual 78, 3) := by decide +kernel
theorem dX2_up_36 : decode cX2_up 36 = .ok (.ifCond .ne 7, 3) := by decide +kernel
theorem dX2_up_39 : decode cX2_up 39 = .ok (.iconst 1, 1) := by decide +kernel
theorem dX2_up_40 : decode cX2_up 40 = .ok (.goto 4, 3) := by decide +kernel
theorem dX2_up_43 : decode cX2_up 43 = .ok (.iconst 0, 1) := by decide +kernel
theorem dX2_up_44 : decode cX2_up 44 = .ok (.istore_n 1, 1) := by decide +kernel
theorem dX2_up_45 : decode cX2_up 45 = .ok (.goto (-43), 3) := by decide +kernel
theorem dX2_up_48 : decode cX2_up 48 = .ok (.aload_n 0, 1) := by decide +kernel
theorem dX2_up_49 : decode cX2_up 49 = .ok (.getfield 49, 3) := by decide +kernel
theorem dX2_up_52 : decode cX2_up 52 = .ok (.ifCond .le 7, 3) := by decide +kernel
theorem dX2_up_55 : decode cX2_up 55 = .ok (.aload_n 0, 1) := by decide +kernel
theorem dX2_up_56 : decode cX2_up 56 = .ok (.invokevirtual 82, 3) := by decide +kernel
theorem dX2_up_59 : decode cX2_up 59 = .ok (.return_, 1) := by decide +kernel
theorem dX2_takes_0 : decode cX2_takes 0 = .ok (.aload_n 0, 1) := by decide +kernel
theorem dX2_takes_1 : decode cX2_takes 1 = .ok (.invokevirtual 68, 3) := by decide +kernel
theorem dX2_takes_4 : decode cX2_takes 4 = .ok (.istore_n 1, 1) := by decide +kernel
theorem dX2_takes_5 : decode cX2_takes 5 = .ok (.aload_n 0, 1) := by decide +kernel
theorem dX2_takes_6 : decode cX2_takes 6 = .ok (.getfield 59, 3) := by decide +kernel
theorem dX2_takes_9 : decode cX2_takes 9 = .ok (.bipush 7, 2) := by decide +kernel
theorem dX2_takes_11 : decode cX2_takes 11 = .ok (.if_icmp .eq 10, 3) := by decide +kernel
theorem dX2_takes_14 : decode cX2_takes 14 = .ok (.iload_n 1, 1) := by decide +kernel
theorem dX2_takes_15 : decode cX2_takes 15 = .ok (.sipush 2000, 3) := by decide +kernel
theorem dX2_takes_18 : decode cX2_takes 18 = .ok (.if_icmp .ge 5, 3) := by decide +kernel
theorem dX2_takes_21 : decode cX2_takes 21 = .ok (.iconst 0, 1) := by decide +kernel
theorem dX2_takes_22 : decode cX2_takes 22 = .ok (.ireturn, 1) := by decide +kernel
theorem dX2_takes_23 : decode cX2_takes 23 = .ok (.iload_n 1, 1) := by decide +kernel
theorem dX2_takes_24 : decode cX2_takes 24 = .ok (.sipush 3000, 3) := by decide +kernel
theorem dX2_takes_27 : decode cX2_takes 27 = .ok (.if_icmp .ge 29, 3) := by decide +kernel
theorem dX2_takes_30 : decode cX2_takes 30 = .ok (.aload_n 0, 1) := by decide +kernel
theorem dX2_takes_31 : decode cX2_takes 31 = .ok (.dup, 1) := by decide +kernel
theorem dX2_takes_32 : decode cX2_takes 32 = .ok (.getfield 62, 3) := by decide +kernel
theorem dX2_takes_35 : decode cX2_takes 35 = .ok (.iconst 1, 1) := by decide +kernel
theorem dX2_takes_36 : decode cX2_takes 36 = .ok (.iadd, 1) := by decide +kernel
theorem dX2_takes_37 : decode cX2_takes 37 = .ok (.putfield 62, 3) := by decide +kernel
theorem dX2_takes_40 : decode cX2_takes 40 = .ok (.aload_n 0, 1) := by decide +kernel
theorem dX2_takes_41 : decode cX2_takes 41 = .ok (.iconst 5, 1) := by decide +kernel
theorem dX2_takes_42 : decode cX2_takes 42 = .ok (.putfield 59, 3) := by decide +kernel
theorem dX2_takes_45 : decode cX2_takes 45 = .ok (.aload_n 0, 1) := by decide +kernel
theorem dX2_takes_46 : decode cX2_takes 46 = .ok (.iload_n 1, 1) := by decide +kernel
theorem dX2_takes_47 : decode cX2_takes 47 = .ok (.sipush 2000, 3) := by decide +kernel
theorem dX2_takes_50 : decode cX2_takes 50 = .ok (.isub, 1) := by decide +kernel
theorem dX2_takes_51 : decode cX2_takes 51 = .ok (.putfield 19, 3) := by decide +kernel
theorem dX2_takes_54 : decode cX2_takes 54 = .ok (.iconst 0, 1) := by decide +kernel
theorem dX2_takes_55 : decode cX2_takes 55 = .ok (.ireturn, 1) := by decide +kernel
theorem dX2_takes_56 : decode cX2_takes 56 = .ok (.aload_n 0, 1) := by decide +kernel
theorem dX2_takes_57 : decode cX2_takes 57 = .ok (.bipush 7, 2) := by decide +kernel
theorem dX2_takes_59 : decode cX2_takes 59 = .ok (.invokevirtual 52, 3) := by decide +kernel
theorem dX2_takes_62 : decode cX2_takes 62 = .ok (.aload_n 0, 1) := by decide +kernel
theorem dX2_takes_63 : decode cX2_takes 63 = .ok (.dup, 1) := by decide +kernel
theorem dX2_takes_64 : decode cX2_takes 64 = .ok (.getfield 72, 3) := by decide +kernel
theorem dX2_takes_67 : decode cX2_takes 67 = .ok (.aload_n 0, 1) := by decide +kernel
theorem dX2_takes_68 : decode cX2_takes 68 = .ok (.getfield 59, 3) := by decide +kernel
theorem dX2_takes_71 : decode cX2_takes 71 = .ok (.iadd, 1) := by decide +kernel
theorem dX2_takes_72 : decode cX2_takes 72 = .ok (.putfield 72, 3) := by decide +kernel
theorem dX2_takes_75 : decode cX2_takes 75 = .ok (.aload_n 0, 1) := by decide +kernel
theorem dX2_takes_76 : decode cX2_takes 76 = .ok (.iconst 0, 1) := by decide +kernel
theorem dX2_takes_77 : decode cX2_takes 77 = .ok (.invokevirtual 75, 3) := by decide +kernel
theorem dX2_takes_80 : decode cX2_takes 80 = .ok (.iconst 1, 1) := by decide +kernel
theorem dX2_takes_81 : decode cX2_takes 81 = .ok (.ireturn, 1) := by decide +kernel
theorem dX2_cellAtHand_0 : decode cX2_cellAtHand 0 = .ok (.aload_n 0, 1) := by decide +kernel
theorem dX2_cellAtHand_1 : decode cX2_cellAtHand 1 = .ok (.getfield 13, 3) := by decide +kernel
theorem dX2_cellAtHand_4 : decode cX2_cellAtHand 4 = .ok (.bipush 12, 2) := by decide +kernel
theorem dX2_cellAtHand_6 : decode cX2_cellAtHand 6 = .ok (.aload_n 0, 1) := by decide +kernel
theorem dX2_cellAtHand_7 : decode cX2_cellAtHand 7 = .ok (.getfield 26, 3) := by decide +kernel
theorem dX2_cellAtHand_10 : decode cX2_cellAtHand 10 = .ok (.aload_n 0, 1) := by decide +kernel
theorem dX2_cellAtHand_11 : decode cX2_cellAtHand 11 = .ok (.getfield 49, 3) := by decide +kernel
theorem dX2_cellAtHand_14 : decode cX2_cellAtHand 14 = .ok (.iconst 1, 1) := by decide +kernel
theorem dX2_cellAtHand_15 : decode cX2_cellAtHand 15 = .ok (.isub, 1) := by decide +kernel
theorem dX2_cellAtHand_16 : decode cX2_cellAtHand 16 = .ok (.iaload, 1) := by decide +kernel
theorem dX2_cellAtHand_17 : decode cX2_cellAtHand 17 = .ok (.imul, 1) := by decide +kernel
theorem dX2_cellAtHand_18 : decode cX2_cellAtHand 18 = .ok (.aload_n 0, 1) := by decide +kernel
theorem dX2_cellAtHand_19 : decode cX2_cellAtHand 19 = .ok (.getfield 29, 3) := by decide +kernel
theorem dX2_cellAtHand_22 : decode cX2_cellAtHand 22 = .ok (.aload_n 0, 1) := by decide +kernel
theorem dX2_cellAtHand_23 : decode cX2_cellAtHand 23 = .ok (.getfield 49, 3) := by decide +kernel
theorem dX2_cellAtHand_26 : decode cX2_cellAtHand 26 = .ok (.iconst 1, 1) := by decide +kernel
theorem dX2_cellAtHand_27 : decode cX2_cellAtHand 27 = .ok (.isub, 1) := by decide +kernel
theorem dX2_cellAtHand_28 : decode cX2_cellAtHand 28 = .ok (.iaload, 1) := by decide +kernel
theorem dX2_cellAtHand_29 : decode cX2_cellAtHand 29 = .ok (.iadd, 1) := by decide +kernel
theorem dX2_cellAtHand_30 : decode cX2_cellAtHand 30 = .ok (.iaload, 1) := by decide +kernel
theorem dX2_cellAtHand_31 : decode cX2_cellAtHand 31 = .ok (.ireturn, 1) := by decide +kernel
theorem dX2_lifts_0 : decode cX2_lifts 0 = .ok (.aload_n 0, 1) := by decide +kernel
theorem dX2_lifts_1 : decode cX2_lifts 1 = .ok (.getfield 49, 3) := by decide +kernel
theorem dX2_lifts_4 : decode cX2_lifts 4 = .ok (.bipush 6, 2) := by decide +kernel
theorem dX2_lifts_6 : decode cX2_lifts 6 = .ok (.if_icmp .ge 9, 3) := by decide +kernel
theorem dX2_lifts_9 : decode cX2_lifts 9 = .ok (.aload_n 0, 1) := by decide +kernel
theorem dX2_lifts_10 : decode cX2_lifts 10 = .ok (.iload_n 1, 1) := by decide +kernel
theorem dX2_lifts_11 : decode cX2_lifts 11 = .ok (.invokevirtual 88, 3) := by decide +kernel
theorem dX2_lifts_14 : decode cX2_lifts 14 = .ok (.return_, 1) := by decide +kernel
theorem dX2_lifts_15 : decode cX2_lifts 15 = .ok (.aload_n 0, 1) := by decide +kernel
theorem dX2_lifts_16 : decode cX2_lifts 16 = .ok (.bipush 6, 2) := by decide +kernel
theorem dX2_lifts_18 : decode cX2_lifts 18 = .ok (.invokevirtual 75, 3) := by decide +kernel
theorem dX2_lifts_21 : decode cX2_lifts 21 = .ok (.aload_n 0, 1) := by decide +kernel
theorem dX2_lifts_22 : decode cX2_lifts 22 = .ok (.invokevirtual 78, 3) := by decide +kernel
theorem dX2_lifts_25 : decode cX2_lifts 25 = .ok (.ifCond .eq 10, 3) := by decide +kernel
theorem dX2_lifts_28 : decode cX2_lifts 28 = .ok (.aload_n 0, 1) := by decide +kernel
theorem dX2_lifts_29 : decode cX2_lifts 29 = .ok (.invokevirtual 82, 3) := by decide +kernel
theorem dX2_lifts_32 : decode cX2_lifts 32 = .ok (.goto 7, 3) := by decide +kernel
theorem dX2_lifts_35 : decode cX2_lifts 35 = .ok (.aload_n 0, 1) := by decide +kernel
theorem dX2_lifts_36 : decode cX2_lifts 36 = .ok (.invokevirtual 91, 3) := by decide +kernel
theorem dX2_lifts_39 : decode cX2_lifts 39 = .ok (.return_, 1) := by decide +kernel
theorem dX2_barrel_0 : decode cX2_barrel 0 = .ok (.iload_n 1, 1) := by decide +kernel
theorem dX2_barrel_1 : decode cX2_barrel 1 = .ok (.aload_n 0, 1) := by decide +kernel
theorem dX2_barrel_2 : decode cX2_barrel 2 = .ok (.getfield 43, 3) := by decide +kernel
theorem dX2_barrel_5 : decode cX2_barrel 5 = .ok (.if_icmp .ne 15, 3) := by decide +kernel
theorem dX2_barrel_8 : decode cX2_barrel 8 = .ok (.aload_n 0, 1) := by decide +kernel
theorem dX2_barrel_9 : decode cX2_barrel 9 = .ok (.iconst 2, 1) := by decide +kernel
theorem dX2_barrel_10 : decode cX2_barrel 10 = .ok (.invokevirtual 75, 3) := by decide +kernel
theorem dX2_barrel_13 : decode cX2_barrel 13 = .ok (.aload_n 0, 1) := by decide +kernel
theorem dX2_barrel_14 : decode cX2_barrel 14 = .ok (.invokevirtual 91, 3) := by decide +kernel
theorem dX2_barrel_17 : decode cX2_barrel 17 = .ok (.goto 27, 3) := by decide +kernel
theorem dX2_barrel_20 : decode cX2_barrel 20 = .ok (.aload_n 0, 1) := by decide +kernel
theorem dX2_barrel_21 : decode cX2_barrel 21 = .ok (.dup, 1) := by decide +kernel
theorem dX2_barrel_22 : decode cX2_barrel 22 = .ok (.getfield 72, 3) := by decide +kernel
theorem dX2_barrel_25 : decode cX2_barrel 25 = .ok (.aload_n 0, 1) := by decide +kernel
theorem dX2_barrel_26 : decode cX2_barrel 26 = .ok (.getfield 97, 3) := by decide +kernel
theorem dX2_barrel_29 : decode cX2_barrel 29 = .ok (.iload_n 1, 1) := by decide +kernel
theorem dX2_barrel_30 : decode cX2_barrel 30 = .ok (.aload_n 0, 1) := by decide +kernel
theorem dX2_barrel_31 : decode cX2_barrel 31 = .ok (.getfield 43, 3) := by decide +kernel
theorem dX2_barrel_34 : decode cX2_barrel 34 = .ok (.isub, 1) := by decide +kernel
theorem dX2_barrel_35 : decode cX2_barrel 35 = .ok (.idiv, 1) := by decide +kernel
theorem dX2_barrel_36 : decode cX2_barrel 36 = .ok (.iadd, 1) := by decide +kernel
theorem dX2_barrel_37 : decode cX2_barrel 37 = .ok (.putfield 72, 3) := by decide +kernel
theorem dX2_barrel_40 : decode cX2_barrel 40 = .ok (.aload_n 0, 1) := by decide +kernel
theorem dX2_barrel_41 : decode cX2_barrel 41 = .ok (.invokevirtual 82, 3) := by decide +kernel
theorem dX2_barrel_44 : decode cX2_barrel 44 = .ok (.return_, 1) := by decide +kernel
theorem dX2_help_0 : decode cX2_help 0 = .ok (.iload_n 1, 1) := by decide +kernel
theorem dX2_help_1 : decode cX2_help 1 = .ok (.iconst 3, 1) := by decide +kernel
theorem dX2_help_2 : decode cX2_help 2 = .ok (.if_icmp .gt 12, 3) := by decide +kernel
theorem dX2_help_5 : decode cX2_help 5 = .ok (.aload_n 0, 1) := by decide +kernel
theorem dX2_help_6 : decode cX2_help 6 = .ok (.getfield 16, 3) := by decide +kernel
theorem dX2_help_9 : decode cX2_help 9 = .ok (.iload_n 1, 1) := by decide +kernel
theorem dX2_help_10 : decode cX2_help 10 = .ok (.iaload, 1) := by decide +kernel
theorem dX2_help_11 : decode cX2_help 11 = .ok (.ifCond .ne 24, 3) := by decide +kernel
theorem dX2_help_14 : decode cX2_help 14 = .ok (.aload_n 0, 1) := by decide +kernel
theorem dX2_help_15 : decode cX2_help 15 = .ok (.iload_n 1, 1) := by decide +kernel
theorem dX2_help_16 : decode cX2_help 16 = .ok (.iconst 3, 1) := by decide +kernel
theorem dX2_help_17 : decode cX2_help 17 = .ok (.if_icmp .le 7, 3) := by decide +kernel
theorem dX2_help_20 : decode cX2_help 20 = .ok (.iconst 4, 1) := by decide +kernel
theorem dX2_help_21 : decode cX2_help 21 = .ok (.goto 4, 3) := by decide +kernel
theorem dX2_help_24 : decode cX2_help 24 = .ok (.iconst 3, 1) := by decide +kernel
theorem dX2_help_25 : decode cX2_help 25 = .ok (.invokevirtual 75, 3) := by decide +kernel
theorem dX2_help_28 : decode cX2_help 28 = .ok (.aload_n 0, 1) := by decide +kernel
theorem dX2_help_29 : decode cX2_help 29 = .ok (.invokevirtual 91, 3) := by decide +kernel
theorem dX2_help_32 : decode cX2_help 32 = .ok (.goto 22, 3) := by decide +kernel
theorem dX2_help_35 : decode cX2_help 35 = .ok (.aload_n 0, 1) := by decide +kernel
theorem dX2_help_36 : decode cX2_help 36 = .ok (.dup, 1) := by decide +kernel
theorem dX2_help_37 : decode cX2_help 37 = .ok (.getfield 72, 3) := by decide +kernel
theorem dX2_help_40 : decode cX2_help 40 = .ok (.aload_n 0, 1) := by decide +kernel
theorem dX2_help_41 : decode cX2_help 41 = .ok (.getfield 16, 3) := by decide +kernel
theorem dX2_help_44 : decode cX2_help 44 = .ok (.iload_n 1, 1) := by decide +kernel
theorem dX2_help_45 : decode cX2_help 45 = .ok (.iaload, 1) := by decide +kernel
theorem dX2_help_46 : decode cX2_help 46 = .ok (.iadd, 1) := by decide +kernel
theorem dX2_help_47 : decode cX2_help 47 = .ok (.putfield 72, 3) := by decide +kernel
theorem dX2_help_50 : decode cX2_help 50 = .ok (.aload_n 0, 1) := by decide +kernel
theorem dX2_help_51 : decode cX2_help 51 = .ok (.invokevirtual 82, 3) := by decide +kernel
theorem dX2_help_54 : decode cX2_help 54 = .ok (.return_, 1) := by decide +kernel
theorem dX2_leaves_0 : decode cX2_leaves 0 = .ok (.iload_n 1, 1) := by decide +kernel
theorem dX2_leaves_1 : decode cX2_leaves 1 = .ok (.iconst (-1), 1) := by decide +kernel
theorem dX2_leaves_2 : decode cX2_leaves 2 = .ok (.if_icmp .ne 13, 3) := by decide +kernel
theorem dX2_leaves_5 : decode cX2_leaves 5 = .ok (.aload_n 0, 1) := by decide +kernel
theorem dX2_leaves_6 : decode cX2_leaves 6 = .ok (.iconst 1, 1) := by decide +kernel
theorem dX2_leaves_7 : decode cX2_leaves 7 = .ok (.invokevirtual 75, 3) := by decide +kernel
theorem dX2_leaves_10 : decode cX2_leaves 10 = .ok (.aload_n 0, 1) := by decide +kernel
theorem dX2_leaves_11 : decode cX2_leaves 11 = .ok (.invokevirtual 91, 3) := by decide +kernel
theorem dX2_leaves_14 : decode cX2_leaves 14 = .ok (.return_, 1) := by decide +kernel
theorem dX2_leaves_15 : decode cX2_leaves 15 = .ok (.aload_n 0, 1) := by decide +kernel
theorem dX2_leaves_16 : decode cX2_leaves 16 = .ok (.invokevirtual 56, 3) := by decide +kernel
theorem dX2_leaves_19 : decode cX2_leaves 19 = .ok (.iload_n 1, 1) := by decide +kernel
theorem dX2_leaves_20 : decode cX2_leaves 20 = .ok (.bipush (-2), 2) := by decide +kernel
theorem dX2_leaves_22 : decode cX2_leaves 22 = .ok (.if_icmp .ne 10, 3) := by decide +kernel
theorem dX2_leaves_25 : decode cX2_leaves 25 = .ok (.aload_n 0, 1) := by decide +kernel
theorem dX2_leaves_26 : decode cX2_leaves 26 = .ok (.invokevirtual 100, 3) := by decide +kernel
theorem dX2_leaves_29 : decode cX2_leaves 29 = .ok (.goto 31, 3) := by decide +kernel
theorem dX2_leaves_32 : decode cX2_leaves 32 = .ok (.iload_n 1, 1) := by decide +kernel
theorem dX2_leaves_33 : decode cX2_leaves 33 = .ok (.bipush (-3), 2) := by decide +kernel
theorem dX2_leaves_35 : decode cX2_leaves 35 = .ok (.if_icmp .ne 21, 3) := by decide +kernel
theorem dX2_leaves_38 : decode cX2_leaves 38 = .ok (.aload_n 0, 1) := by decide +kernel
theorem dX2_leaves_39 : decode cX2_leaves 39 = .ok (.getfield 29, 3) := by decide +kernel
theorem dX2_leaves_42 : decode cX2_leaves 42 = .ok (.aload_n 0, 1) := by decide +kernel
theorem dX2_leaves_43 : decode cX2_leaves 43 = .ok (.getfield 49, 3) := by decide +kernel
theorem dX2_leaves_46 : decode cX2_leaves 46 = .ok (.iconst 1, 1) := by decide +kernel
theorem dX2_leaves_47 : decode cX2_leaves 47 = .ok (.isub, 1) := by decide +kernel
theorem dX2_leaves_48 : decode cX2_leaves 48 = .ok (.dup2, 1) := by decide +kernel
theorem dX2_leaves_49 : decode cX2_leaves 49 = .ok (.iaload, 1) := by decide +kernel
theorem dX2_leaves_50 : decode cX2_leaves 50 = .ok (.iconst 1, 1) := by decide +kernel
theorem dX2_leaves_51 : decode cX2_leaves 51 = .ok (.iadd, 1) := by decide +kernel
theorem dX2_leaves_52 : decode cX2_leaves 52 = .ok (.iastore, 1) := by decide +kernel
theorem dX2_leaves_53 : decode cX2_leaves 53 = .ok (.goto 7, 3) := by decide +kernel
theorem dX2_leaves_56 : decode cX2_leaves 56 = .ok (.aload_n 0, 1) := by decide +kernel
theorem dX2_leaves_57 : decode cX2_leaves 57 = .ok (.invokevirtual 94, 3) := by decide +kernel
theorem dX2_leaves_60 : decode cX2_leaves 60 = .ok (.return_, 1) := by decide +kernel
theorem dX2_told_0 : decode cX2_told 0 = .ok (.iload_n 1, 1) := by decide +kernel
theorem dX2_told_1 : decode cX2_told 1 = .ok (.tableswitch 87 0 7 #[47, 52, 57, 62, 67, 72, 77, 82], 47) := by decide +kernel
theorem dX2_told_48 : decode cX2_told 48 = .ok (.aload_n 0, 1) := by decide +kernel
theorem dX2_told_49 : decode cX2_told 49 = .ok (.getfield 72, 3) := by decide +kernel
theorem dX2_told_52 : decode cX2_told 52 = .ok (.ireturn, 1) := by decide +kernel
theorem dX2_told_53 : decode cX2_told 53 = .ok (.aload_n 0, 1) := by decide +kernel
theorem dX2_told_54 : decode cX2_told 54 = .ok (.getfield 59, 3) := by decide +kernel
theorem dX2_told_57 : decode cX2_told 57 = .ok (.ireturn, 1) := by decide +kernel
theorem dX2_told_58 : decode cX2_told 58 = .ok (.aload_n 0, 1) := by decide +kernel
theorem dX2_told_59 : decode cX2_told 59 = .ok (.getfield 62, 3) := by decide +kernel
theorem dX2_told_62 : decode cX2_told 62 = .ok (.ireturn, 1) := by decide +kernel
theorem dX2_told_63 : decode cX2_told 63 = .ok (.aload_n 0, 1) := by decide +kernel
theorem dX2_told_64 : decode cX2_told 64 = .ok (.getfield 65, 3) := by decide +kernel
theorem dX2_told_67 : decode cX2_told 67 = .ok (.ireturn, 1) := by decide +kernel
theorem dX2_told_68 : decode cX2_told 68 = .ok (.aload_n 0, 1) := by decide +kernel
theorem dX2_told_69 : decode cX2_told 69 = .ok (.getfield 19, 3) := by decide +kernel
theorem dX2_told_72 : decode cX2_told 72 = .ok (.ireturn, 1) := by decide +kernel
theorem dX2_told_73 : decode cX2_told 73 = .ok (.aload_n 0, 1) := by decide +kernel
theorem dX2_told_74 : decode cX2_told 74 = .ok (.getfield 103, 3) := by decide +kernel
theorem dX2_told_77 : decode cX2_told 77 = .ok (.ireturn, 1) := by decide +kernel
theorem dX2_told_78 : decode cX2_told 78 = .ok (.aload_n 0, 1) := by decide +kernel
theorem dX2_told_79 : decode cX2_told 79 = .ok (.getfield 85, 3) := by decide +kernel
theorem dX2_told_82 : decode cX2_told 82 = .ok (.ireturn, 1) := by decide +kernel
theorem dX2_told_83 : decode cX2_told 83 = .ok (.aload_n 0, 1) := by decide +kernel
theorem dX2_told_84 : decode cX2_told 84 = .ok (.getfield 46, 3) := by decide +kernel
theorem dX2_told_87 : decode cX2_told 87 = .ok (.ireturn, 1) := by decide +kernel
theorem dX2_told_88 : decode cX2_told 88 = .ok (.bipush (-101), 2) := by decide +kernel
theorem dX2_told_90 : decode cX2_told 90 = .ok (.ireturn, 1) := by decide +kernel
theorem dX2_note_0 : decode cX2_note 0 = .ok (.iload_n 1, 1) := by decide +kernel
theorem dX2_note_1 : decode cX2_note 1 = .ok (.iconst 0, 1) := by decide +kernel
theorem dX2_note_2 : decode cX2_note 2 = .ok (.aload_n 0, 1) := by decide +kernel
theorem dX2_note_3 : decode cX2_note 3 = .ok (.getfield 46, 3) := by decide +kernel
theorem dX2_note_6 : decode cX2_note 6 = .ok (.iconst 1, 1) := by decide +kernel
theorem dX2_note_7 : decode cX2_note 7 = .ok (.isub, 1) := by decide +kernel
theorem dX2_note_8 : decode cX2_note 8 = .ok (.invokestatic 32, 3) := by decide +kernel
theorem dX2_note_11 : decode cX2_note 11 = .ok (.ifCond .eq 12, 3) := by decide +kernel
theorem dX2_note_14 : decode cX2_note 14 = .ok (.aload_n 0, 1) := by decide +kernel
theorem dX2_note_15 : decode cX2_note 15 = .ok (.getfield 23, 3) := by decide +kernel
theorem dX2_note_18 : decode cX2_note 18 = .ok (.iload_n 1, 1) := by decide +kernel
theorem dX2_note_19 : decode cX2_note 19 = .ok (.iaload, 1) := by decide +kernel
theorem dX2_note_20 : decode cX2_note 20 = .ok (.goto 5, 3) := by decide +kernel
theorem dX2_note_23 : decode cX2_note 23 = .ok (.bipush (-101), 2) := by decide +kernel
theorem dX2_note_25 : decode cX2_note 25 = .ok (.ireturn, 1) := by decide +kernel
theorem dX2_held_0 : decode cX2_held 0 = .ok (.iload_n 1, 1) := by decide +kernel
theorem dX2_held_1 : decode cX2_held 1 = .ok (.iconst 0, 1) := by decide +kernel
theorem dX2_held_2 : decode cX2_held 2 = .ok (.iconst 2, 1) := by decide +kernel
theorem dX2_held_3 : decode cX2_held 3 = .ok (.invokestatic 32, 3) := by decide +kernel
theorem dX2_held_6 : decode cX2_held 6 = .ok (.ifCond .eq 7, 3) := by decide +kernel
theorem dX2_held_9 : decode cX2_held 9 = .ok (.iconst 0, 1) := by decide +kernel
theorem dX2_held_10 : decode cX2_held 10 = .ok (.goto 5, 3) := by decide +kernel
theorem dX2_held_13 : decode cX2_held 13 = .ok (.bipush (-101), 2) := by decide +kernel
theorem dX2_held_15 : decode cX2_held 15 = .ok (.ireturn, 1) := by decide +kernel
theorem dX2_cells_0 : decode cX2_cells 0 = .ok (.iload_n 1, 1) := by decide +kernel
theorem dX2_cells_1 : decode cX2_cells 1 = .ok (.invokestatic 36, 3) := by decide +kernel
theorem dX2_cells_4 : decode cX2_cells 4 = .ok (.ifCond .eq 12, 3) := by decide +kernel
theorem dX2_cells_7 : decode cX2_cells 7 = .ok (.aload_n 0, 1) := by decide +kernel
theorem dX2_cells_8 : decode cX2_cells 8 = .ok (.getfield 7, 3) := by decide +kernel
theorem dX2_cells_11 : decode cX2_cells 11 = .ok (.iload_n 1, 1) := by decide +kernel
theorem dX2_cells_12 : decode cX2_cells 12 = .ok (.iaload, 1) := by decide +kernel
theorem dX2_cells_13 : decode cX2_cells 13 = .ok (.goto 5, 3) := by decide +kernel
theorem dX2_cells_16 : decode cX2_cells 16 = .ok (.bipush (-101), 2) := by decide +kernel
theorem dX2_cells_18 : decode cX2_cells 18 = .ok (.ireturn, 1) := by decide +kernel
theorem dL_law_0 : decode cL_law 0 = .ok (.new 7, 3) := by decide +kernel
theorem dL_law_3 : decode cL_law 3 = .ok (.dup, 1) := by decide +kernel
theorem dL_law_4 : decode cL_law 4 = .ok (.invokespecial 9, 3) := by decide +kernel
theorem dL_law_7 : decode cL_law 7 = .ok (.astore_n 1, 1) := by decide +kernel
theorem dL_law_8 : decode cL_law 8 = .ok (.new 10, 3) := by decide +kernel
theorem dL_law_11 : decode cL_law 11 = .ok (.dup, 1) := by decide +kernel
theorem dL_law_12 : decode cL_law 12 = .ok (.invokespecial 12, 3) := by decide +kernel
theorem dL_law_15 : decode cL_law 15 = .ok (.astore_n 2, 1) := by decide +kernel
theorem dL_law_16 : decode cL_law 16 = .ok (.iconst 0, 1) := by decide +kernel
theorem dL_law_17 : decode cL_law 17 = .ok (.istore_n 3, 1) := by decide +kernel
theorem dL_law_18 : decode cL_law 18 = .ok (.iload_n 3, 1) := by decide +kernel
theorem dL_law_19 : decode cL_law 19 = .ok (.aload_n 0, 1) := by decide +kernel
theorem dL_law_20 : decode cL_law 20 = .ok (.arraylength, 1) := by decide +kernel
theorem dL_law_21 : decode cL_law 21 = .ok (.iconst 3, 1) := by decide +kernel
theorem dL_law_22 : decode cL_law 22 = .ok (.isub, 1) := by decide +kernel
theorem dL_law_23 : decode cL_law 23 = .ok (.if_icmp .gt 304, 3) := by decide +kernel
theorem dL_law_26 : decode cL_law 26 = .ok (.aload_n 0, 1) := by decide +kernel
theorem dL_law_27 : decode cL_law 27 = .ok (.iload_n 3, 1) := by decide +kernel
theorem dL_law_28 : decode cL_law 28 = .ok (.iaload, 1) := by decide +kernel
theorem dL_law_29 : decode cL_law 29 = .ok (.bipush 15, 2) := by decide +kernel
theorem dL_law_31 : decode cL_law 31 = .ok (.iand, 1) := by decide +kernel
theorem dL_law_32 : decode cL_law 32 = .ok (.tableswitch 289 0 8 #[52, 85, 108, 131, 164, 197, 220, 243, 266], 52) := by decide +kernel
theorem dL_law_84 : decode cL_law 84 = .ok (.aload_n 1, 1) := by decide +kernel
theorem dL_law_85 : decode cL_law 85 = .ok (.aload_n 0, 1) := by decide +kernel
theorem dL_law_86 : decode cL_law 86 = .ok (.iload_n 3, 1) := by decide +kernel
theorem dL_law_87 : decode cL_law 87 = .ok (.iconst 1, 1) := by decide +kernel
theorem dL_law_88 : decode cL_law 88 = .ok (.iadd, 1) := by decide +kernel
theorem dL_law_89 : decode cL_law 89 = .ok (.iaload, 1) := by decide +kernel
theorem dL_law_90 : decode cL_law 90 = .ok (.aload_n 0, 1) := by decide +kernel
theorem dL_law_91 : decode cL_law 91 = .ok (.iload_n 3, 1) := by decide +kernel
theorem dL_law_92 : decode cL_law 92 = .ok (.iconst 2, 1) := by decide +kernel
theorem dL_law_93 : decode cL_law 93 = .ok (.iadd, 1) := by decide +kernel
theorem dL_law_94 : decode cL_law 94 = .ok (.iaload, 1) := by decide +kernel
theorem dL_law_95 : decode cL_law 95 = .ok (.invokevirtual 13, 3) := by decide +kernel
theorem dL_law_98 : decode cL_law 98 = .ok (.aload_n 2, 1) := by decide +kernel
theorem dL_law_99 : decode cL_law 99 = .ok (.aload_n 0, 1) := by decide +kernel
theorem dL_law_100 : decode cL_law 100 = .ok (.iload_n 3, 1) := by decide +kernel
theorem dL_law_101 : decode cL_law 101 = .ok (.iconst 1, 1) := by decide +kernel
theorem dL_law_102 : decode cL_law 102 = .ok (.iadd, 1) := by decide +kernel
theorem dL_law_103 : decode cL_law 103 = .ok (.iaload, 1) := by decide +kernel
theorem dL_law_104 : decode cL_law 104 = .ok (.aload_n 0, 1) := by decide +kernel
theorem dL_law_105 : decode cL_law 105 = .ok (.iload_n 3, 1) := by decide +kernel
theorem dL_law_106 : decode cL_law 106 = .ok (.iconst 2, 1) := by decide +kernel
theorem dL_law_107 : decode cL_law 107 = .ok (.iadd, 1) := by decide +kernel
theorem dL_law_108 : decode cL_law 108 = .ok (.iaload, 1) := by decide +kernel
theorem dL_law_109 : decode cL_law 109 = .ok (.invokevirtual 17, 3) := by decide +kernel
theorem dL_law_112 : decode cL_law 112 = .ok (.if_icmp .eq 209, 3) := by decide +kernel
theorem dL_law_115 : decode cL_law 115 = .ok (.iconst 0, 1) := by decide +kernel
theorem dL_law_116 : decode cL_law 116 = .ok (.ireturn, 1) := by decide +kernel
theorem dL_law_117 : decode cL_law 117 = .ok (.aload_n 1, 1) := by decide +kernel
theorem dL_law_118 : decode cL_law 118 = .ok (.aload_n 0, 1) := by decide +kernel
theorem dL_law_119 : decode cL_law 119 = .ok (.iload_n 3, 1) := by decide +kernel
theorem dL_law_120 : decode cL_law 120 = .ok (.iconst 1, 1) := by decide +kernel
theorem dL_law_121 : decode cL_law 121 = .ok (.iadd, 1) := by decide +kernel
theorem dL_law_122 : decode cL_law 122 = .ok (.iaload, 1) := by decide +kernel
theorem dL_law_123 : decode cL_law 123 = .ok (.invokevirtual 18, 3) := by decide +kernel
theorem dL_law_126 : decode cL_law 126 = .ok (.aload_n 2, 1) := by decide +kernel
theorem dL_law_127 : decode cL_law 127 = .ok (.aload_n 0, 1) := by decide +kernel
theorem dL_law_128 : decode cL_law 128 = .ok (.iload_n 3, 1) := by decide +kernel
theorem dL_law_129 : decode cL_law 129 = .ok (.iconst 1, 1) := by decide +kernel
theorem dL_law_130 : decode cL_law 130 = .ok (.iadd, 1) := by decide +kernel
theorem dL_law_131 : decode cL_law 131 = .ok (.iaload, 1) := by decide +kernel
theorem dL_law_132 : decode cL_law 132 = .ok (.invokevirtual 22, 3) := by decide +kernel
theorem dL_law_135 : decode cL_law 135 = .ok (.if_icmp .eq 186, 3) := by decide +kernel
theorem dL_law_138 : decode cL_law 138 = .ok (.iconst 0, 1) := by decide +kernel
theorem dL_law_139 : decode cL_law 139 = .ok (.ireturn, 1) := by decide +kernel
theorem dL_law_140 : decode cL_law 140 = .ok (.aload_n 1, 1) := by decide +kernel
theorem dL_law_141 : decode cL_law 141 = .ok (.aload_n 0, 1) := by decide +kernel
theorem dL_law_142 : decode cL_law 142 = .ok (.iload_n 3, 1) := by decide +kernel
theorem dL_law_143 : decode cL_law 143 = .ok (.iconst 1, 1) := by decide +kernel
theorem dL_law_144 : decode cL_law 144 = .ok (.iadd, 1) := by decide +kernel
theorem dL_law_145 : decode cL_law 145 = .ok (.iaload, 1) := by decide +kernel
theorem dL_law_146 : decode cL_law 146 = .ok (.invokevirtual 23, 3) := by decide +kernel
theorem dL_law_149 : decode cL_law 149 = .ok (.aload_n 2, 1) := by decide +kernel
theorem dL_law_150 : decode cL_law 150 = .ok (.aload_n 0, 1) := by decide +kernel
theorem dL_law_151 : decode cL_law 151 = .ok (.iload_n 3, 1) := by decide +kernel
theorem dL_law_152 : decode cL_law 152 = .ok (.iconst 1, 1) := by decide +kernel
theorem dL_law_153 : decode cL_law 153 = .ok (.iadd, 1) := by decide +kernel
theorem dL_law_154 : decode cL_law 154 = .ok (.iaload, 1) := by decide +kernel
theorem dL_law_155 : decode cL_law 155 = .ok (.invokevirtual 26, 3) := by decide +kernel
theorem dL_law_158 : decode cL_law 158 = .ok (.if_icmp .eq 163, 3) := by decide +kernel
theorem dL_law_161 : decode cL_law 161 = .ok (.iconst 0, 1) := by decide +kernel
theorem dL_law_162 : decode cL_law 162 = .ok (.ireturn, 1) := by decide +kernel
theorem dL_law_163 : decode cL_law 163 = .ok (.aload_n 1, 1) := by decide +kernel
theorem dL_law_164 : decode cL_law 164 = .ok (.aload_n 0, 1) := by decide +kernel
theorem dL_law_165 : decode cL_law 165 = .ok (.iload_n 3, 1) := by decide +kernel
theorem dL_law_166 : decode cL_law 166 = .ok (.iconst 1, 1) := by decide +kernel
theorem dL_law_167 : decode cL_law 167 = .ok (.iadd, 1) := by decide +kernel
theorem dL_law_168 : decode cL_law 168 = .ok (.iaload, 1) := by decide +kernel
theorem dL_law_169 : decode cL_law 169 = .ok (.aload_n 0, 1) := by decide +kernel
theorem dL_law_170 : decode cL_law 170 = .ok (.iload_n 3, 1) := by decide +kernel
theorem dL_law_171 : decode cL_law 171 = .ok (.iconst 2, 1) := by decide +kernel
theorem dL_law_172 : decode cL_law 172 = .ok (.iadd, 1) := by decide +kernel
theorem dL_law_173 : decode cL_law 173 = .ok (.iaload, 1) := by decide +kernel
theorem dL_law_174 : decode cL_law 174 = .ok (.invokevirtual 27, 3) := by decide +kernel
theorem dL_law_177 : decode cL_law 177 = .ok (.aload_n 2, 1) := by decide +kernel
theorem dL_law_178 : decode cL_law 178 = .ok (.aload_n 0, 1) := by decide +kernel
theorem dL_law_179 : decode cL_law 179 = .ok (.iload_n 3, 1) := by decide +kernel
theorem dL_law_180 : decode cL_law 180 = .ok (.iconst 1, 1) := by decide +kernel
theorem dL_law_181 : decode cL_law 181 = .ok (.iadd, 1) := by decide +kernel
theorem dL_law_182 : decode cL_law 182 = .ok (.iaload, 1) := by decide +kernel
theorem dL_law_183 : decode cL_law 183 = .ok (.aload_n 0, 1) := by decide +kernel
theorem dL_law_184 : decode cL_law 184 = .ok (.iload_n 3, 1) := by decide +kernel
theorem dL_law_185 : decode cL_law 185 = .ok (.iconst 2, 1) := by decide +kernel
theorem dL_law_186 : decode cL_law 186 = .ok (.iadd, 1) := by decide +kernel
theorem dL_law_187 : decode cL_law 187 = .ok (.iaload, 1) := by decide +kernel
theorem dL_law_188 : decode cL_law 188 = .ok (.invokevirtual 30, 3) := by decide +kernel
theorem dL_law_191 : decode cL_law 191 = .ok (.if_icmp .eq 130, 3) := by decide +kernel
theorem dL_law_194 : decode cL_law 194 = .ok (.iconst 0, 1) := by decide +kernel
theorem dL_law_195 : decode cL_law 195 = .ok (.ireturn, 1) := by decide +kernel
theorem dL_law_196 : decode cL_law 196 = .ok (.aload_n 1, 1) := by decide +kernel
theorem dL_law_197 : decode cL_law 197 = .ok (.aload_n 0, 1) := by decide +kernel
theorem dL_law_198 : decode cL_law 198 = .ok (.iload_n 3, 1) := by decide +kernel
theorem dL_law_199 : decode cL_law 199 = .ok (.iconst 1, 1) := by decide +kernel
theorem dL_law_200 : decode cL_law 200 = .ok (.iadd, 1) := by decide +kernel
theorem dL_law_201 : decode cL_law 201 = .ok (.iaload, 1) := by decide +kernel
theorem dL_law_202 : decode cL_law 202 = .ok (.aload_n 0, 1) := by decide +kernel
theorem dL_law_203 : decode cL_law 203 = .ok (.iload_n 3, 1) := by decide +kernel
theorem dL_law_204 : decode cL_law 204 = .ok (.iconst 2, 1) := by decide +kernel
theorem dL_law_205 : decode cL_law 205 = .ok (.iadd, 1) := by decide +kernel
theorem dL_law_206 : decode cL_law 206 = .ok (.iaload, 1) := by decide +kernel
theorem dL_law_207 : decode cL_law 207 = .ok (.invokevirtual 31, 3) := by decide +kernel
theorem dL_law_210 : decode cL_law 210 = .ok (.aload_n 2, 1) := by decide +kernel
theorem dL_law_211 : decode cL_law 211 = .ok (.aload_n 0, 1) := by decide +kernel
theorem dL_law_212 : decode cL_law 212 = .ok (.iload_n 3, 1) := by decide +kernel
theorem dL_law_213 : decode cL_law 213 = .ok (.iconst 1, 1) := by decide +kernel
theorem dL_law_214 : decode cL_law 214 = .ok (.iadd, 1) := by decide +kernel
theorem dL_law_215 : decode cL_law 215 = .ok (.iaload, 1) := by decide +kernel
theorem dL_law_216 : decode cL_law 216 = .ok (.aload_n 0, 1) := by decide +kernel
theorem dL_law_217 : decode cL_law 217 = .ok (.iload_n 3, 1) := by decide +kernel
theorem dL_law_218 : decode cL_law 218 = .ok (.iconst 2, 1) := by decide +kernel
theorem dL_law_219 : decode cL_law 219 = .ok (.iadd, 1) := by decide +kernel
theorem dL_law_220 : decode cL_law 220 = .ok (.iaload, 1) := by decide +kernel
theorem dL_law_221 : decode cL_law 221 = .ok (.invokevirtual 34, 3) := by decide +kernel
theorem dL_law_224 : decode cL_law 224 = .ok (.if_icmp .eq 97, 3) := by decide +kernel
theorem dL_law_227 : decode cL_law 227 = .ok (.iconst 0, 1) := by decide +kernel
theorem dL_law_228 : decode cL_law 228 = .ok (.ireturn, 1) := by decide +kernel
theorem dL_law_229 : decode cL_law 229 = .ok (.aload_n 1, 1) := by decide +kernel
theorem dL_law_230 : decode cL_law 230 = .ok (.aload_n 0, 1) := by decide +kernel
theorem dL_law_231 : decode cL_law 231 = .ok (.iload_n 3, 1) := by decide +kernel
theorem dL_law_232 : decode cL_law 232 = .ok (.iconst 1, 1) := by decide +kernel
theorem dL_law_233 : decode cL_law 233 = .ok (.iadd, 1) := by decide +kernel
theorem dL_law_234 : decode cL_law 234 = .ok (.iaload, 1) := by decide +kernel
theorem dL_law_235 : decode cL_law 235 = .ok (.invokevirtual 35, 3) := by decide +kernel
theorem dL_law_238 : decode cL_law 238 = .ok (.aload_n 2, 1) := by decide +kernel
theorem dL_law_239 : decode cL_law 239 = .ok (.aload_n 0, 1) := by decide +kernel
theorem dL_law_240 : decode cL_law 240 = .ok (.iload_n 3, 1) := by decide +kernel
theorem dL_law_241 : decode cL_law 241 = .ok (.iconst 1, 1) := by decide +kernel
theorem dL_law_242 : decode cL_law 242 = .ok (.iadd, 1) := by decide +kernel
theorem dL_law_243 : decode cL_law 243 = .ok (.iaload, 1) := by decide +kernel
theorem dL_law_244 : decode cL_law 244 = .ok (.invokevirtual 38, 3) := by decide +kernel
theorem dL_law_247 : decode cL_law 247 = .ok (.if_icmp .eq 74, 3) := by decide +kernel
theorem dL_law_250 : decode cL_law 250 = .ok (.iconst 0, 1) := by decide +kernel
theorem dL_law_251 : decode cL_law 251 = .ok (.ireturn, 1) := by decide +kernel
theorem dL_law_252 : decode cL_law 252 = .ok (.aload_n 1, 1) := by decide +kernel
theorem dL_law_253 : decode cL_law 253 = .ok (.aload_n 0, 1) := by decide +kernel
theorem dL_law_254 : decode cL_law 254 = .ok (.iload_n 3, 1) := by decide +kernel
theorem dL_law_255 : decode cL_law 255 = .ok (.iconst 1, 1) := by decide +kernel
theorem dL_law_256 : decode cL_law 256 = .ok (.iadd, 1) := by decide +kernel
theorem dL_law_257 : decode cL_law 257 = .ok (.iaload, 1) := by decide +kernel
theorem dL_law_258 : decode cL_law 258 = .ok (.invokevirtual 39, 3) := by decide +kernel
theorem dL_law_261 : decode cL_law 261 = .ok (.aload_n 2, 1) := by decide +kernel
theorem dL_law_262 : decode cL_law 262 = .ok (.aload_n 0, 1) := by decide +kernel
theorem dL_law_263 : decode cL_law 263 = .ok (.iload_n 3, 1) := by decide +kernel
theorem dL_law_264 : decode cL_law 264 = .ok (.iconst 1, 1) := by decide +kernel
theorem dL_law_265 : decode cL_law 265 = .ok (.iadd, 1) := by decide +kernel
theorem dL_law_266 : decode cL_law 266 = .ok (.iaload, 1) := by decide +kernel
theorem dL_law_267 : decode cL_law 267 = .ok (.invokevirtual 42, 3) := by decide +kernel
theorem dL_law_270 : decode cL_law 270 = .ok (.if_icmp .eq 51, 3) := by decide +kernel
theorem dL_law_273 : decode cL_law 273 = .ok (.iconst 0, 1) := by decide +kernel
theorem dL_law_274 : decode cL_law 274 = .ok (.ireturn, 1) := by decide +kernel
theorem dL_law_275 : decode cL_law 275 = .ok (.aload_n 1, 1) := by decide +kernel
theorem dL_law_276 : decode cL_law 276 = .ok (.aload_n 0, 1) := by decide +kernel
theorem dL_law_277 : decode cL_law 277 = .ok (.iload_n 3, 1) := by decide +kernel
theorem dL_law_278 : decode cL_law 278 = .ok (.iconst 1, 1) := by decide +kernel
theorem dL_law_279 : decode cL_law 279 = .ok (.iadd, 1) := by decide +kernel
theorem dL_law_280 : decode cL_law 280 = .ok (.iaload, 1) := by decide +kernel
theorem dL_law_281 : decode cL_law 281 = .ok (.invokevirtual 43, 3) := by decide +kernel
theorem dL_law_284 : decode cL_law 284 = .ok (.aload_n 2, 1) := by decide +kernel
theorem dL_law_285 : decode cL_law 285 = .ok (.aload_n 0, 1) := by decide +kernel
theorem dL_law_286 : decode cL_law 286 = .ok (.iload_n 3, 1) := by decide +kernel
theorem dL_law_287 : decode cL_law 287 = .ok (.iconst 1, 1) := by decide +kernel
theorem dL_law_288 : decode cL_law 288 = .ok (.iadd, 1) := by decide +kernel
theorem dL_law_289 : decode cL_law 289 = .ok (.iaload, 1) := by decide +kernel
theorem dL_law_290 : decode cL_law 290 = .ok (.invokevirtual 46, 3) := by decide +kernel
theorem dL_law_293 : decode cL_law 293 = .ok (.if_icmp .eq 28, 3) := by decide +kernel
theorem dL_law_296 : decode cL_law 296 = .ok (.iconst 0, 1) := by decide +kernel
theorem dL_law_297 : decode cL_law 297 = .ok (.ireturn, 1) := by decide +kernel
theorem dL_law_298 : decode cL_law 298 = .ok (.aload_n 1, 1) := by decide +kernel
theorem dL_law_299 : decode cL_law 299 = .ok (.aload_n 0, 1) := by decide +kernel
theorem dL_law_300 : decode cL_law 300 = .ok (.iload_n 3, 1) := by decide +kernel
theorem dL_law_301 : decode cL_law 301 = .ok (.iconst 1, 1) := by decide +kernel
theorem dL_law_302 : decode cL_law 302 = .ok (.iadd, 1) := by decide +kernel
theorem dL_law_303 : decode cL_law 303 = .ok (.iaload, 1) := by decide +kernel
theorem dL_law_304 : decode cL_law 304 = .ok (.invokevirtual 47, 3) := by decide +kernel
theorem dL_law_307 : decode cL_law 307 = .ok (.aload_n 2, 1) := by decide +kernel
theorem dL_law_308 : decode cL_law 308 = .ok (.aload_n 0, 1) := by decide +kernel
theorem dL_law_309 : decode cL_law 309 = .ok (.iload_n 3, 1) := by decide +kernel
theorem dL_law_310 : decode cL_law 310 = .ok (.iconst 1, 1) := by decide +kernel
theorem dL_law_311 : decode cL_law 311 = .ok (.iadd, 1) := by decide +kernel
theorem dL_law_312 : decode cL_law 312 = .ok (.iaload, 1) := by decide +kernel
theorem dL_law_313 : decode cL_law 313 = .ok (.invokevirtual 50, 3) := by decide +kernel
theorem dL_law_316 : decode cL_law 316 = .ok (.if_icmp .eq 5, 3) := by decide +kernel
theorem dL_law_319 : decode cL_law 319 = .ok (.iconst 0, 1) := by decide +kernel
theorem dL_law_320 : decode cL_law 320 = .ok (.ireturn, 1) := by decide +kernel
theorem dL_law_321 : decode cL_law 321 = .ok (.iinc 3 3, 3) := by decide +kernel
theorem dL_law_324 : decode cL_law 324 = .ok (.goto (-306), 3) := by decide +kernel
theorem dL_law_327 : decode cL_law 327 = .ok (.iconst 1, 1) := by decide +kernel
theorem dL_law_328 : decode cL_law 328 = .ok (.ireturn, 1) := by decide +kernel
end
section
/-! MACHINE ROWS OF THIS CLAIM: contracts whose method may throw; calls of them; the note 'a is being thrown' over a frame; handlers, their catch types cold or warm -/
section HRM
/-- what a method leaves behind: warmer tables, and nothing moved but L, and k new cells of n slots -/
def hr_FE (st t : State) (L : List Loc) (k n : Nat) : Prop := st.WarmedH t.vm ∧ st.sameButNew ({ t with vm := st.vm } : State) L k n
/-- a contract whose method returns or throws -/
def hr_M (l : Launch) (y : MethodName) (ws : List Cond) (rm : Room) (Pc : Array Value → State → Prop) (Qc : Array Value → State → Outcome → State → Prop) (mc ms : Nat) (free : Addr → Prop) : Prop :=
  MetFree l y (headSpec ws rm) Pc (fun _ _ _ _ _ => True) (fun a st o t => Qc a st o t ∧ ∃ L, hr_FE st t L mc ms ∧ ∀ q ∈ L, free q.base)
def hr_Q (below : List Frame) (Qc : Array Value → State → Outcome → State → Prop) (a : Array Value) (s : State) (mc ms : Nat) (free : Addr → Prop) : State → Prop := fun t =>
  ∃ o, t.status = .running ∧ Ended t below o ∧ Qc a s o t ∧ ∃ L, hr_FE s t L mc ms ∧ ∀ q ∈ L, free q.base
theorem hr_Q.of {below : List Frame} {Qc : Array Value → State → Outcome → State → Prop} {a : Array Value} {s : State} {mc ms : Nat} {free : Addr → Prop} {t : State} (h : MQ below Qc a s mc ms free t) : hr_Q below Qc a s mc ms free t := by
  obtain ⟨o, h1, h2, h3, L, ⟨-, h4⟩, h5⟩ := h
  exact ⟨o, h1, h2, h3, L, h4, h5⟩
theorem hr_mono {p : Program} {l : Launch} {e : Env} {R : Room} {s : State} {m : MethodId} {args : Array Value} {below : List Frame} {meth : Method} {c : Code} {H : Heap} {locs : List Loc} {cells slots : Nat} {Q Q' : State → Prop} {g : JFrame}
    (hq : ∀ t, Q t → Q' t) (h : W p l e R s m args below meth c H locs cells slots Q g) : W p l e R s m args below meth c H locs cells slots Q' g := by
  intro T hT X
  obtain ⟨t, a, b⟩ := h T hT X
  exact ⟨t, a, hq t b⟩
variable {l : Launch}
theorem hr_ofW {y : MethodName} {ws ws' : List Cond} {rm : Room} {Pc : Array Value → State → Prop} {Qc : Array Value → State → Outcome → State → Prop} {mc ms : Nat} {free : Addr → Prop} {cc : ByteArray} {maxL : Nat} {ret : Option FieldType}
    (hy : plainName y.cls = true) (hw : ws = Cond.code y cc maxL ret :: ws')
    (body : ∀ p e s m args below meth c s₁, BodyLoose p l y (headSpec ws rm) cc maxL ret e s m args below meth c s₁ → c.maxLocals = maxL → c.exceptionTable.toList = [] → Pc args s →
      W p l e (headSpec ws rm).room s m args below meth c s.heap [] 0 0 (hr_Q below Qc args s mc ms free) (entryFrame m args maxL)) : hr_M l y ws rm Pc Qc mc ms free := by
  refine MetFree.of_bodyS (code := cc) (maxLocals := maxL) (ret := ret) hy ?_ ?_
  · intro args s m h hn
    obtain ⟨meth, c, h1, h2, h3, h4, h5, h6, -, -⟩ := Cond.code_spec hn (atoms_spec (ws := ws) h _ (by rw [hw]; exact List.mem_cons_self))
    exact ⟨meth, c, h1, h2, h3, h4, h5, h6⟩
  · intro p e s m args below meth c s₁ B hml hP _
    have hh0 : s₁.heap = s.heap := by rw [B.state]; rfl
    have htab : c.exceptionTable.toList = [] := by
      obtain ⟨meth', c', h1, h2, -, -, -, -, h7, -⟩ := Cond.code_spec B.named (atoms_spec (ws := ws) B.pre _ (by rw [hw]; exact List.mem_cons_self))
      cases B.method.symm.trans h1
      cases (Stand.of_body B).code.symm.trans h2
      have h0 : c.exceptionTable.size = 0 := by simpa [Array.isEmpty] using h7
      exact List.eq_nil_of_length_eq_zero (by simpa using h0)
    obtain ⟨t, a1, o, b1, b2, b3⟩ := body p e s m args below meth c s₁ B hml htab hP s₁ hh0 (Stand.of_body B)
    exact ⟨t, o, a1, b1, b2, b3⟩
theorem hr_ofWH {y : MethodName} {ws ws' : List Cond} {rm : Room} {Pc : Array Value → State → Prop} {Qc : Array Value → State → Outcome → State → Prop} {mc ms : Nat} {free : Addr → Prop} {cc : ByteArray} {maxL : Nat} {ret : Option FieldType} {hh : List (Nat × Nat × Nat × Nat)}
    (hy : plainName y.cls = true) (hw : ws = Cond.codeWith y cc maxL ret hh :: ws')
    (body : ∀ p e s m args below meth c s₁, BodyLoose p l y (headSpec ws rm) cc maxL ret e s m args below meth c s₁ → c.maxLocals = maxL → c.exceptionTable.toList.map (fun h => (h.startPc, h.endPc, h.handlerPc, h.catchType)) = hh → Pc args s →
      W p l e (headSpec ws rm).room s m args below meth c s.heap [] 0 0 (hr_Q below Qc args s mc ms free) (entryFrame m args maxL)) : hr_M l y ws rm Pc Qc mc ms free := by
  refine MetFree.of_bodyS (code := cc) (maxLocals := maxL) (ret := ret) hy ?_ ?_
  · intro args s m h hn
    obtain ⟨m9, meth, c, hn9, h1, h2, h3, h4, -, h5, h6, -⟩ := Cond.codeWith_spec (atoms_spec (ws := ws) h _ (by rw [hw]; exact List.mem_cons_self))
    cases hn.symm.trans hn9
    exact ⟨meth, c, h1, h2, h3, h4, h5, h6⟩
  · intro p e s m args below meth c s₁ B hml hP _
    have hh0 : s₁.heap = s.heap := by rw [B.state]; rfl
    have htab : c.exceptionTable.toList.map (fun h => (h.startPc, h.endPc, h.handlerPc, h.catchType)) = hh := by
      obtain ⟨m9, meth', c', hn9, h1, h2, -, -, h7, -⟩ := Cond.codeWith_spec (atoms_spec (ws := ws) B.pre _ (by rw [hw]; exact List.mem_cons_self))
      cases B.named.symm.trans hn9
      cases B.method.symm.trans h1
      cases (Stand.of_body B).code.symm.trans h2
      exact h7
    obtain ⟨t, a1, o, b1, b2, b3⟩ := body p e s m args below meth c s₁ B hml htab hP s₁ hh0 (Stand.of_body B)
    exact ⟨t, o, a1, b1, b2, b3⟩
end HRM
section HRB
variable {p : Program} {l : Launch} {e : Env} {R : Room} {s : State} {m : MethodId} {args : Array Value} {below : List Frame} {meth : Method} {c : Code} {T : State} {locs : List Loc} {cells slots : Nat}
/-- the call comes back, or throws into the caller's frame -/
theorem hr_back {y : MethodName} {ws : List Cond} {rm : Room} {Pc : Array Value → State → Prop} {Qc : Array Value → State → Outcome → State → Prop} {mc ms maxL : Nat} {free : Addr → Prop} (hM : hr_M l y ws rm Pc Qc mc ms free) (hbl : FrameBlind Pc) (hrc : rm.cells = mc) (hrs : rm.slots = ms) (hfr : rm.frames + 1 ≤ R.frames) (hlo : 8 + (maxL + 11) + rm.locals ≤ R.locals)
    (X : Stand p l e R s m args below meth c T locs cells slots) {g : JFrame} (hg : g.method = m) (hsize : g.locals.size = c.maxLocals) {ig : Instr} {len : Nat} (hdg : decode c.code g.pc = .ok (ig, len))
    (hW : 2 * g.monitorRoom + (g.stack.map fun v => v.category).sum ≤ 8) {mk : MethodId} (hn : T.methodNamed? y = some mk) {methY : Method} {cY : Code} (hmY : T.vm.method? mk = some methY) (hcY : methY.code = some cY) (hlY : cY.maxLocals = maxL)
    {kY : Class} (hkY : T.vm.classes[mk.cls]? = some kY) (hinit : kY.init = .initialized)
    (hws : ∀ w ∈ ws, ∀ (a' : Array Value) (U : State), s.WarmedH U.vm → w.before a' U = true) (hf : cells + mc ≤ R.cells ∧ slots + ms ≤ R.slots) {a : Array Value} (hPc : Pc a T) :
    ∃ (o : Outcome) (t T' : State) (L : List Loc), Stand p l e R s m args below meth c T' (locs ++ L) (cells + mc) (slots + ms) ∧ (∀ q ∈ L, free q.base) ∧ T'.heap = t.heap ∧ T'.vm = t.vm ∧ Qc a (T.calling g mk a) o t ∧
      (∀ v, o = .returned v → Steps p.tables e below (doInvoke e (T.setTop g) [] mk a).1 (T'.setTop { g with pc := g.pc + len, stack := v.toList ++ g.stack })) ∧
      (∀ x, o = .threw x → Steps p.tables e below (doInvoke e (T.setTop g) [] mk a).1 ((T'.setTop g).pushFrame (.throwing x))) := by
  have h : At T g.method c below := by rw [hg]; exact X.here
  have happ : (headSpec ws rm).appliesLoose y e.platform (T.calling g mk a) = true :=
    Spec.appliesLoose_calling (g := g) h hdg hn hkY hinit
      (X.room_calling (g := g) (R' := rm) hsize hmY hcY hfr (by rw [hlY]; omega) (by rw [hrc]; exact hf.1) (by rw [hrs]; exact hf.2)) (atoms_intro fun w hw => hws w hw _ _ X.warmed)
  obtain ⟨mid, hmid⟩ := h.above
  have hfr2 : (T.setTop g).frames = (.java g :: mid) ++ below := by rw [State.frames_setTop' g h.top, hmid]; rfl
  obtain ⟨o, s₂, hsteps, -, hend, hq, L, ⟨hW₂, e2, q2, q3, q4, q5, q6⟩, hL⟩ := Steps.callFree hM p X.admits X.cas X.clock (acts := []) hfr2 happ (hbl _ _ _ _ hPc) trivial
  rw [State.frames_setTop' g h.top] at hend
  have hW' : T.WarmedH s₂.vm := hW₂
  have e3 : s₂ = ({ (T.calling g mk a).setFrames s₂.frames with heap := s₂.heap, slotsUsed := s₂.slotsUsed } : State).setVm s₂.vm := by
    have h9 : s₂ = ({ s₂ with vm := (T.calling g mk a).vm } : State).setVm s₂.vm := rfl
    have e2' : ({ s₂ with vm := (T.calling g mk a).vm } : State) = _ := e2
    rw [e2'] at h9
    exact h9
  obtain ⟨g₀, hg0⟩ := Option.isSome_iff_exists.mp h.top
  obtain ⟨r, hr⟩ := State.topJava?_eq_some.mp hg0
  have hr' : (({ T with heap := s₂.heap, slotsUsed := s₂.slotsUsed } : State).setVm s₂.vm).frames = .java g₀ :: r := hr
  have hsame : T.sameButNew ({ T with heap := s₂.heap, slotsUsed := s₂.slotsUsed } : State) L mc ms := by
    refine ⟨?_, q2, q3, q4, q5, q6⟩
    obtain ⟨t, ht, -⟩ := State.frames_cons hr
    show ({ T with heap := s₂.heap, slotsUsed := s₂.slotsUsed } : State) = { T.setFrames T.frames with heap := s₂.heap, slotsUsed := s₂.slotsUsed }
    rw [State.setFrames_self ht]
  refine ⟨o, s₂, ({ T with heap := s₂.heap, slotsUsed := s₂.slotsUsed } : State).setVm s₂.vm, L,
    ⟨X.admits, X.cas, X.clock, X.frames, X.room, X.hears, X.method, X.code, (X.here.setHeapUsed s₂.heap s₂.slotsUsed).setVm hW'.alike, X.tail, State.WarmedH.trans X.warmed hW', X.limits, X.bytes, X.same.trans (hsame.setVm s.vm)⟩, hL, rfl, rfl, hq, ?_, ?_⟩
  · intro v hv
    subst hv
    obtain ⟨c₂, i₂, len₂, hc₂, hd₂, hf₂⟩ := hend
    have hcc : c₂ = c := by
      have h1 : s₂.code? g.method = T.code? g.method := by rw [State.code?_eq, State.code?_eq, hW'.alike.method?]
      exact Option.some.inj (hc₂.symm.trans (h1.trans h.code))
    subst hcc
    have hlen : len₂ = len := by rw [hdg] at hd₂; cases hd₂; rfl
    subst hlen
    have hs₂ : s₂ = (({ T with heap := s₂.heap, slotsUsed := s₂.slotsUsed } : State).setVm s₂.vm).setTop { g with pc := g.pc + len₂, stack := v.toList ++ g.stack } := by
      refine e3.trans ?_
      rw [hf₂, State.calling_eq h.top, State.setFrames_setFrames, State.setTop_of_frames _ hr', hr]
      rfl
    rw [← hs₂]
    exact hsteps
  · intro x hx
    subst hx
    have hf₂ : s₂.frames = .throwing x :: .java g :: T.frames.tail := hend
    have hs₂ : s₂ = ((({ T with heap := s₂.heap, slotsUsed := s₂.slotsUsed } : State).setVm s₂.vm).setTop g).pushFrame (.throwing x) := by
      refine e3.trans ?_
      rw [hf₂, State.calling_eq h.top, State.setFrames_setFrames, State.pushFrame, State.frames_setTop _ hr', State.setTop_of_frames _ hr', State.setFrames_setFrames, hr]
      rfl
    rw [← hs₂]
    exact hsteps
end HRB
section HRR
variable {p : Program} {l : Launch} {e : Env} {R : Room} {s : State} {m : MethodId} {args : Array Value} {below : List Frame} {meth : Method} {c : Code} {H : Heap} {locs : List Loc} {cells slots : Nat} {Q : State → Prop}
/-- the machine with the note 'x is being thrown' over the frame g comes to a state with Q -/
def hr_T (p : Program) (l : Launch) (e : Env) (R : Room) (s : State) (m : MethodId) (args : Array Value) (below : List Frame) (meth : Method) (c : Code) (H : Heap) (locs : List Loc) (cells slots : Nat) (Q : State → Prop) (g : JFrame) (x : Addr) : Prop :=
  ∀ T : State, T.heap = H → Stand p l e R s m args below meth c T locs cells slots → ∃ t, Steps p.tables e below ((T.setTop g).pushFrame (.throwing x)) t ∧ Q t
/-- where a call comes back: with a value, or with what it threw -/
def hr_K (p : Program) (l : Launch) (e : Env) (R : Room) (s : State) (m : MethodId) (args : Array Value) (below : List Frame) (meth : Method) (c : Code) (H : Heap) (locs : List Loc) (cells slots : Nat) (Q : State → Prop) (pc : Nat) (ls : Array Slot) (rest : List Value) : Outcome → Prop
  | .returned v => W p l e R s m args below meth c H locs cells slots Q (F0 m (pc + 3) ls (v.toList ++ rest))
  | .threw x => hr_T p l e R s m args below meth c H locs cells slots Q (F0 m pc ls rest) x
def hr_Run (p : Program) (l : Launch) (e : Env) (R : Room) (s : State) (m : MethodId) (args : Array Value) (below : List Frame) (meth : Method) (c : Code) (H : Heap) (locs : List Loc) (cells slots mc ms : Nat) (g : JFrame) (rest : List Value) (Qa : State → Outcome → State → Prop) (free : Addr → Prop) : Prop :=
  ∀ T : State, T.heap = H → Stand p l e R s m args below meth c T locs cells slots → ∃ (o : Outcome) (st₀ t T' : State) (L : List Loc), st₀.heap = H ∧ Stand p l e R s m args below meth c T' (locs ++ L) (cells + mc) (slots + ms) ∧ (∀ q ∈ L, free q.base) ∧ T'.heap = t.heap ∧ T'.vm = t.vm ∧ Qa st₀ o t ∧
    (∀ v, o = .returned v → Goes p e below T g T' { g with pc := g.pc + 3, stack := v.toList ++ rest }) ∧
    (∀ x, o = .threw x → ∀ target, Steps p.tables e below ((T'.setTop { g with stack := rest }).pushFrame (.throwing x)) target → Steps p.tables e below (T.setTop g) target)
/-- what an invokevirtual of y asks of the tables -/
def hr_V (own : String) (index : Nat) (y : MethodName) (maxL n : Nat) : Prop :=
  Cond.methodLink own index y ∈ lw_all ∧ Cond.instanceMethod y ∈ lw_all ∧ Cond.selects y.cls y y ∈ lw_all ∧ Cond.initialized y.cls ∈ lw_all ∧ ((∃ bytes ret, Cond.code y bytes maxL ret ∈ lw_all) ∨ ∃ bytes ret hh, Cond.codeWith y bytes maxL ret hh ∈ lw_all) ∧
    y.cls ≠ "java/lang/invoke/MethodHandle" ∧ y.cls ≠ "java/lang/invoke/VarHandle" ∧ (parseMethodDescriptor y.desc).map (fun d => d.parameters.length) = some n
/-- what an invokestatic of y asks of the tables -/
def hr_S (own : String) (index : Nat) (y : MethodName) (maxL n : Nat) : Prop :=
  Cond.methodLink own index y ∈ lw_all ∧ Cond.static y ∈ lw_all ∧ Cond.initialized y.cls ∈ lw_all ∧ (∃ bytes ret, Cond.code y bytes maxL ret ∈ lw_all) ∧
    y.cls ≠ "java/lang/invoke/MethodHandle" ∧ y.cls ≠ "java/lang/invoke/VarHandle" ∧ (parseMethodDescriptor y.desc).map (fun d => d.parameters.length) = some n
/-- what an invokespecial of the constructor y asks of the tables -/
def hr_I (own : String) (index : Nat) (y : MethodName) (maxL n : Nat) : Prop :=
  Cond.methodLink own index y ∈ lw_all ∧ Cond.instanceMethod y ∈ lw_all ∧ Cond.initialized y.cls ∈ lw_all ∧ (∃ bytes, Cond.code y bytes maxL none ∈ lw_all) ∧ y.name = "<init>" ∧
    y.cls ≠ "java/lang/invoke/MethodHandle" ∧ y.cls ≠ "java/lang/invoke/VarHandle" ∧ (parseMethodDescriptor y.desc).map (fun d => d.parameters.length) = some n
theorem hr_runV {y : MethodName} {cc : ByteArray} {maxL nL mc ms n index : Nat} {ws : List Cond} {rm : Room} {Pc : Array Value → State → Prop} {Qc : Array Value → State → Outcome → State → Prop} {free : Addr → Prop} {own : String} {b : Addr} {As rest : List Value} {g : JFrame}
    (S : CallFix p m c cc nL s args lw_all own) (hM : hr_M l y ws rm Pc Qc mc ms free) (V : hr_V own index y maxL n) (hG : GoodIn lw_all ws) (hrc : rm.cells = mc) (hrs : rm.slots = ms) (hR : rm.frames + 1 ≤ R.frames ∧ 8 + (maxL + 11) + rm.locals ≤ R.locals) (hp : PreV s H y.cls b Pc As)
    (hg : g.method = m) (hn : As.length = n) (hsize : g.locals.size = nL) (hstack : g.stack = As.reverse ++ .ref b :: rest) (hW : 2 * g.monitorRoom + (rest.map fun v => v.category).sum ≤ 8) (hdg : decode cc g.pc = .ok (.invokevirtual index, 3)) (hf : cells + mc ≤ R.cells ∧ slots + ms ≤ R.slots) :
    hr_Run p l e R s m args below meth c H locs cells slots mc ms g rest (Qc (Value.ref b :: As).toArray) free := by
  obtain ⟨hx, hb, hml, hown, hts⟩ := S
  obtain ⟨v1, v2, v3, v4, v5, v6, v7, v8⟩ := V
  obtain ⟨hbl, ⟨cellB, hcB, hoB, hclB⟩, hPc⟩ := hp
  subst hb
  intro T hT X
  obtain ⟨mk, methM, hnamed, hmethM, hstM, habM⟩ := Cond.instanceMethod_spec (hts _ v2)
  obtain ⟨cM, hcM, hlM, hsigM⟩ : ∃ cM, methM.code = some cM ∧ cM.maxLocals = maxL ∧ parseMethodDescriptor y.desc = some methM.sig := by
    rcases v5 with ⟨bytes, ret, h5⟩ | ⟨bytes, ret, hh, h5⟩
    · obtain ⟨meth', c', h1, h2, -, h3, -, -, -, h4⟩ := Cond.code_spec hnamed (hts _ h5)
      cases hmethM.symm.trans h1
      exact ⟨c', h2, h3, h4⟩
    · obtain ⟨m9, meth', c', hn9, h1, h2, -, h3, -, -, -, h4⟩ := Cond.codeWith_spec (hts _ h5)
      cases hnamed.symm.trans hn9
      cases hmethM.symm.trans h1
      exact ⟨c', h2, h3, h4⟩
  obtain ⟨c2, r2, m2, q1, q2, q3, q4, kP, hkP, hkPi⟩ := Cond.selects_spec (hts _ v3)
  cases hclB.symm.trans q1
  cases (State.methodFound?_of_named hnamed ⟨v6, v7⟩).symm.trans q2
  cases hnamed.symm.trans q3
  have hselP : selectMethod e.platform s.vm cellB.cls mk = .method mk := by rw [Launch.admits_selectMethod X.admits]; exact q4
  have hlen : As.length = methM.sig.parameters.length := by
    rw [hsigM] at v8
    exact hn.trans (Option.some.inj v8).symm
  obtain ⟨vm₁, X₁, hstep₁⟩ := X.invokevirtual hx hown (hts _ v1) hnamed hmethM hstM hkP hkPi ⟨v6, v7⟩ (a := b) (cell := cellB) (by rw [hT]; exact hcB)
    (fun z h => by rw [h] at hoB; cases hoB) hselP hmethM habM hkP hkPi (g := g) hg (argsL := As) (rest := rest) hlen hstack hdg
  obtain ⟨kY, hkY, -⟩ := className_of_methodNamed (X₁.named hnamed)
  have hinitY : kY.init = .initialized := Cond.initialized_spec (findClass_of_methodNamed (X₁.named hnamed)) hkY (word_at (a' := args) X₁.warmed (Or.inl (by first | rfl | simp [Cond.onTables, Cond.keeps, Cond.steady])) (hts _ v4))
  obtain ⟨o, t, T', L, X', hL, e1, e2, hq, r1, r2⟩ := hr_back hM hbl hrc hrs hR.1 hR.2 X₁ (g := { g with stack := rest }) hg (hsize.trans hml.symm) hdg hW (X₁.named hnamed) (methY := methM) (cY := cM) (by rw [X₁.warmed.alike.method?]; exact hmethM) hcM hlM hkY hinitY (pay_in hts hG) hf
    (hPc (T.setVm vm₁) hT X₁.warmed)
  refine ⟨o, _, t, T', L, ?_, X', hL, e1, e2, hq, fun v hv target h => ?_, fun x hx2 target h => ?_⟩
  · exact hT
  · exact hstep₁ _ fun acts => by rw [doInvoke_state]; exact (r1 v hv).trans h
  · exact hstep₁ _ fun acts => by rw [doInvoke_state]; exact (r2 x hx2).trans h
theorem hr_runS {y : MethodName} {cc : ByteArray} {maxL nL mc ms n index : Nat} {ws : List Cond} {rm : Room} {Pc : Array Value → State → Prop} {Qc : Array Value → State → Outcome → State → Prop} {free : Addr → Prop} {own : String} {As rest : List Value} {g : JFrame}
    (S : CallFix p m c cc nL s args lw_all own) (hM : hr_M l y ws rm Pc Qc mc ms free) (V : hr_S own index y maxL n) (hG : GoodIn lw_all ws) (hrc : rm.cells = mc) (hrs : rm.slots = ms) (hR : rm.frames + 1 ≤ R.frames ∧ 8 + (maxL + 11) + rm.locals ≤ R.locals) (hp : PreS s H Pc As)
    (hg : g.method = m) (hn : As.length = n) (hsize : g.locals.size = nL) (hstack : g.stack = As.reverse ++ rest) (hW : 2 * g.monitorRoom + (rest.map fun v => v.category).sum ≤ 8) (hdg : decode cc g.pc = .ok (.invokestatic index, 3)) (hf : cells + mc ≤ R.cells ∧ slots + ms ≤ R.slots) :
    hr_Run p l e R s m args below meth c H locs cells slots mc ms g rest (Qc As.toArray) free := by
  obtain ⟨hx, hb, hml, hown, hts⟩ := S
  obtain ⟨v1, v2, v4, ⟨bytes, ret, v5⟩, v6, v7, v8⟩ := V
  obtain ⟨hbl, hPc⟩ := hp
  subst hb
  intro T hT X
  obtain ⟨mk, hnamed⟩ := Cond.code_named (hts _ v5)
  obtain ⟨methM, cM, hmethM, hcM, -, hlM, -, -, -, hsigM⟩ := Cond.code_spec hnamed (hts _ v5)
  have hstatic : methM.isStatic = true := Cond.static_spec hnamed hmethM (hts _ v2)
  obtain ⟨kP, hkP, -⟩ := className_of_methodNamed hnamed
  have hinitP : kP.init = .initialized := Cond.initialized_spec (findClass_of_methodNamed hnamed) hkP (hts _ v4)
  have hlen : As.length = methM.sig.parameters.length := by
    rw [hsigM] at v8
    exact hn.trans (Option.some.inj v8).symm
  obtain ⟨vm₁, X₁, hstep₁⟩ := X.invokestatic hx hown (hts _ v1) hnamed hmethM hstatic hkP hinitP ⟨v6, v7⟩ (g := g) hg (argsL := As) (rest := rest) hlen hstack hdg
  obtain ⟨kY, hkY, -⟩ := className_of_methodNamed (X₁.named hnamed)
  have hinitY : kY.init = .initialized := Cond.initialized_spec (findClass_of_methodNamed (X₁.named hnamed)) hkY (word_at (a' := args) X₁.warmed (Or.inl (by first | rfl | simp [Cond.onTables, Cond.keeps, Cond.steady])) (hts _ v4))
  obtain ⟨o, t, T', L, X', hL, e1, e2, hq, r1, r2⟩ := hr_back hM hbl hrc hrs hR.1 hR.2 X₁ (g := { g with stack := rest }) hg (hsize.trans hml.symm) hdg hW (X₁.named hnamed) (methY := methM) (cY := cM) (by rw [X₁.warmed.alike.method?]; exact hmethM) hcM hlM hkY hinitY (pay_in hts hG) hf
    (hPc (T.setVm vm₁) hT X₁.warmed)
  refine ⟨o, _, t, T', L, ?_, X', hL, e1, e2, hq, fun v hv target h => ?_, fun x hx2 target h => ?_⟩
  · exact hT
  · exact hstep₁ _ fun acts => by rw [doInvoke_state]; exact (r1 v hv).trans h
  · exact hstep₁ _ fun acts => by rw [doInvoke_state]; exact (r2 x hx2).trans h
theorem hr_runI {y : MethodName} {cc : ByteArray} {maxL nL mc ms n index : Nat} {ws : List Cond} {rm : Room} {Pc : Array Value → State → Prop} {Qc : Array Value → State → Outcome → State → Prop} {free : Addr → Prop} {own : String} {b : Addr} {As rest : List Value} {g : JFrame}
    (S : CallFix p m c cc nL s args lw_all own) (hM : hr_M l y ws rm Pc Qc mc ms free) (V : hr_I own index y maxL n) (hG : GoodIn lw_all ws) (hrc : rm.cells = mc) (hrs : rm.slots = ms) (hR : rm.frames + 1 ≤ R.frames ∧ 8 + (maxL + 11) + rm.locals ≤ R.locals) (hp : PreS s H Pc (.ref b :: As))
    (hg : g.method = m) (hn : As.length = n) (hsize : g.locals.size = nL) (hstack : g.stack = As.reverse ++ .ref b :: rest) (hW : 2 * g.monitorRoom + (rest.map fun v => v.category).sum ≤ 8) (hdg : decode cc g.pc = .ok (.invokespecial index, 3)) (hf : cells + mc ≤ R.cells ∧ slots + ms ≤ R.slots) :
    hr_Run p l e R s m args below meth c H locs cells slots mc ms g rest (Qc (Value.ref b :: As).toArray) free := by
  obtain ⟨hx, hb, hml, hown, hts⟩ := S
  obtain ⟨v1, v2, v4, ⟨bytes, v5⟩, v9, v6, v7, v8⟩ := V
  obtain ⟨hbl, hPc⟩ := hp
  subst hb
  subst hg
  intro T hT X
  have hpl : e.platform.magicAccessors = ({} : Platform).magicAccessors := by rw [X.admits.platform]
  have hlen : ∀ sig, parseMethodDescriptor y.desc = some sig → As.length = sig.parameters.length := by
    intro sig h
    rw [h] at v8
    exact hn.trans (Option.some.inj v8).symm
  obtain ⟨mk, methM, cM, kP, vm₁, hnamed, hmethM, hcM, -, hlM, -, hkP, -, hW₁, hstep₁⟩ := Steps.initColdArgs (e := e) X.here hx X.warmed hpl hown v9 ⟨v6, v7⟩ (hts _ v1) (hts _ v2) (hts _ v5) (f := g) rfl hlen hstack hdg
  have X₁ := X.noted hW₁
  obtain ⟨kY, hkY, -⟩ := className_of_methodNamed (X₁.named hnamed)
  have hinitY : kY.init = .initialized := Cond.initialized_spec (findClass_of_methodNamed (X₁.named hnamed)) hkY (word_at (a' := args) X₁.warmed (Or.inl (by first | rfl | simp [Cond.onTables, Cond.keeps, Cond.steady])) (hts _ v4))
  obtain ⟨o, t, T', L, X', hL, e1, e2, hq, r1, r2⟩ := hr_back hM hbl hrc hrs hR.1 hR.2 X₁ (g := { g with stack := rest }) rfl (hsize.trans hml.symm) hdg hW (X₁.named hnamed) (methY := methM) (cY := cM) (by rw [X₁.warmed.alike.method?]; exact hmethM) hcM hlM hkY hinitY (pay_in hts hG) hf
    (hPc (T.setVm vm₁) hT X₁.warmed)
  refine ⟨o, _, t, T', L, ?_, X', hL, e1, e2, hq, fun v hv target h => ?_, fun x hx2 target h => ?_⟩
  · exact hT
  · exact hstep₁ _ fun acts => by rw [doInvoke_state]; exact (r1 v hv).trans h
  · exact hstep₁ _ fun acts => by rw [doInvoke_state]; exact (r2 x hx2).trans h
theorem hr_go {mc ms pc : Nat} {ls : Array Slot} {st0 rest : List Value} {Qa : State → Outcome → State → Prop} {free : Addr → Prop} (hr : hr_Run p l e R s m args below meth c H locs cells slots mc ms (F0 m pc ls st0) rest Qa free)
    (kk : ∀ (o : Outcome) (st₀ t : State) (H1 : Heap) (L : List Loc), st₀.heap = H → t.heap = H1 → s.vm.Alike t.vm → Qa st₀ o t → (∀ q ∈ L, free q.base) → hr_K p l e R s m args below meth c H1 (locs ++ L) (cells + mc) (slots + ms) Q pc ls rest o) :
    W p l e R s m args below meth c H locs cells slots Q (F0 m pc ls st0) := by
  intro T hT X
  obtain ⟨o, st₀, t, T', L, h0, X', hL, e1, e2, hq, r1, r2⟩ := hr T hT X
  have k := kk o st₀ t T'.heap L h0 e1.symm (by rw [← e2]; exact X'.warmed.alike) hq hL
  cases o with
  | returned v =>
    obtain ⟨t2, a1, b1⟩ := k T' rfl X'
    exact ⟨t2, r1 v rfl t2 a1, b1⟩
  | threw x =>
    obtain ⟨t2, a1, b1⟩ := k T' rfl X'
    exact ⟨t2, r2 x rfl t2 a1, b1⟩
/-! ### throwing -/
variable {cc : ByteArray} {pc : Nat} {ls : Array Slot} {rest : List Value} {x : Addr}
theorem hr_T.widen {k n : Nat} {g : JFrame} (h1 : cells ≤ k) (h2 : slots ≤ n) (h : hr_T p l e R s m args below meth c H locs k n Q g x) : hr_T p l e R s m args below meth c H locs cells slots Q g x := by
  intro T hT X
  exact h T hT (stand_widen X h1 h2)
theorem hr_athrow (hexec : p.tables.exec = Jvm.exec) (hb : c.code = cc) (hdg : decode cc pc = .ok (.athrow, 1))
    (k : hr_T p l e R s m args below meth c H locs cells slots Q (F0 m pc ls rest) x) : W p l e R s m args below meth c H locs cells slots Q (F0 m pc ls (.ref x :: rest)) := by
  intro T hT X
  obtain ⟨t, a1, b1⟩ := k T hT X
  refine ⟨t, ?_, b1⟩
  subst hb
  jvm_step X.here [hexec, hdg, athrow.wp_sem]
  exact a1
/-- the table's row in four numbers -/
abbrev hr_row (h : ExceptionTableEntry) : Nat × Nat × Nat × Nat := (h.startPc, h.endPc, h.handlerPc, h.catchType)
/-- which handler takes it: is t: the thrown object is of the class that the entry t names -/
def hr_pick (is : Nat → Bool) (pc : Nat) : List (Nat × Nat × Nat × Nat) → Option Nat
  | [] => none
  | (a, b, h, t) :: r => if decide (a ≤ pc) && decide (pc < b) then (if t == 0 || is t then some h else hr_pick is pc r) else hr_pick is pc r
def hr_hand (o : Option Nat) : Handler := match o with
  | some h => .found h
  | none => .none
theorem hr_go_cold {U : State} {f : JFrame} {E : CtlPost} {d : Bool} {acts : List Action} {Q : Handler → Pre} {x : ExceptionTableEntry} {t : List ExceptionTableEntry} {ci : ClassId} {vm' : Vm} {cell : Cell} {a : Addr} (hx : covers x f.pc = true) (h0 : x.catchType ≠ 0)
    (hg : (Jvm.resolveClass f.method.cls x.catchType).Gives e.toSetting U.vm (.ok ci) vm') (hsz : vm'.classes.size ≤ U.vm.classes.size) (hcell : U.heap[a]? = some cell) (hobj : ∀ k, cell.vm ≠ .statics k)
    (hk : ∃ k, vm'.classes[cell.cls]? = some k) (hc : ∃ k, vm'.classes[ci]? = some k) :
    wp (findHandler.go f a (x :: t)) Q E e d acts U ↔
      if vm'.assignable cell.cls ci = true then Q (.found x.handlerPc) d acts (U.setVm vm') else wp (findHandler.go f a t) Q E e d acts (U.setVm vm') := by
  simp only [covers] at hx
  obtain ⟨ha, ht⟩ := hg.op (op := VmOp.resolveClass f.method.cls x.catchType) rfl
  cases hfit : vm'.assignable cell.cls ci <;>
    simp [findHandler.go, hx, h0, ha, ht, hsz, hcell, hobj, hk, hc, hfit, VmOp.dirties, VmOp.acts]
theorem hr_search {f : JFrame} {a : Addr} {cell : Cell} {is : Nat → Bool} (hmt : e.platform.magicAccessors = ({} : Platform).magicAccessors) (hobj : ∀ k, cell.vm ≠ .statics k) (hk : ∃ k, s.vm.classes[cell.cls]? = some k) :
    ∀ (tbl : List ExceptionTableEntry) (U : State), s.WarmedH U.vm → U.heap[a]? = some cell →
      (∀ x ∈ tbl, x.catchType ≠ 0 → ∃ ci : ClassId, s.vm.ClassLinks e.platform f.method.cls x.catchType ci ∧ (∃ k, s.vm.classes[ci]? = some k) ∧ s.vm.assignable cell.cls ci = is x.catchType) →
      ∃ vm' : Vm, s.WarmedH vm' ∧ ∀ (Q : Handler → Pre) (E : CtlPost) (d : Bool) (acts : List Action), wp (findHandler.go f a tbl) Q E e d acts U ↔ Q (hr_hand (hr_pick is f.pc (tbl.map hr_row))) d acts (U.setVm vm') := by
  intro tbl
  induction tbl with
  | nil =>
    intro U hW _ _
    exact ⟨U.vm, hW, fun Q E d acts => W.findHandler_go_nil⟩
  | cons x t ih =>
    intro U hW hcell hcl
    have hrest : ∀ y ∈ t, y.catchType ≠ 0 → ∃ ci : ClassId, s.vm.ClassLinks e.platform f.method.cls y.catchType ci ∧ (∃ k, s.vm.classes[ci]? = some k) ∧ s.vm.assignable cell.cls ci = is y.catchType := fun y hy => hcl y (List.mem_cons_of_mem _ hy)
    cases hx : covers x f.pc with
    | false =>
      obtain ⟨vm', h1, h2⟩ := ih U hW hcell hrest
      refine ⟨vm', h1, fun Q E d acts => ?_⟩
      rw [W.findHandler_go_skip hx, h2]
      simp only [covers] at hx
      simp [hr_pick, hx]
    | true =>
      by_cases h0 : x.catchType = 0
      · refine ⟨U.vm, hW, fun Q E d acts => ?_⟩
        rw [W.findHandler_go_any hx h0]
        simp only [covers] at hx
        simp [hr_pick, hx, h0, hr_hand]
      · obtain ⟨ci, hl, hki, has⟩ := hcl x List.mem_cons_self h0
        obtain ⟨hg₁, hwarm₁, hready₁⟩ := State.classEntry (e := e) hW hl
        generalize U.vm.noted f.method.cls x.catchType (.cls ci) = vm₁ at hg₁ hwarm₁ hready₁
        have hsz : vm₁.classes.size ≤ U.vm.classes.size := Vm.Alike.size_le (hW.alike.symm.trans hwarm₁.alike)
        have hk1 : ∃ k, vm₁.classes[cell.cls]? = some k := by
          obtain ⟨k, hk⟩ := hk
          obtain ⟨k', hk', -⟩ := hwarm₁.alike.2.2 _ _ hk
          exact ⟨k', hk'⟩
        have hki1 : ∃ k, vm₁.classes[ci]? = some k := by
          obtain ⟨k, hk⟩ := hki
          obtain ⟨k', hk', -⟩ := hwarm₁.alike.2.2 _ _ hk
          exact ⟨k', hk'⟩
        have has1 : vm₁.assignable cell.cls ci = is x.catchType := by rw [hwarm₁.alike.assignable]; exact has
        cases hi : is x.catchType with
        | true =>
          refine ⟨vm₁, hwarm₁, fun Q E d acts => ?_⟩
          rw [hr_go_cold hx h0 hg₁ hsz hcell hobj hk1 hki1, has1, hi]
          simp only [covers] at hx
          simp [hr_pick, hx, hi, hr_hand]
        | false =>
          obtain ⟨vm', h1, h2⟩ := ih (U.setVm vm₁) hwarm₁ hcell hrest
          refine ⟨vm', h1, fun Q E d acts => ?_⟩
          rw [hr_go_cold hx h0 hg₁ hsz hcell hobj hk1 hki1, has1, hi]
          simp only [covers] at hx
          simp [hr_pick, hx, hi, h0, h2]
          exact Iff.rfl
end HRR
end
section
/-! THE WORLD: what is known since the law's start; regions; rows for objects and arrays at known addresses -/
section HRW
abbrev hr_cl : List vw_C := [(RX0, TX0, 17), (RX1, TX1, 2), (RX3, TX3, 1), (RX2, TX2, 17), (RX4, TX4, 7), (RX6, TX6, 7), (RX5, TX5, 6)]
abbrev hr_ty (g : ClassId × ClassId × ClassId) : List (ClassId × FieldType) := [(g.1, .int), (g.2.1, .object RX1), (g.2.2, .object RX3)]
/-- what holds at the law's start: the tables' words, the premises, the classes' numbers -/
def hr_Z (s0 : State) (D : va_G) (g : ClassId × ClassId × ClassId) : Prop :=
  ∃ b0 : Nat, (∀ w ∈ lw_tbl, w.before #[Value.ref b0] s0 = true) ∧ (Jvm.Cond.and given_1 narrow_1).before #[Value.ref b0] s0 = true ∧ va_K D hr_cl (hr_ty g) s0
/-- since the law's start: warmer tables; what lay in the heap lies there as it was -/
def hr_B (s0 : State) (vm : Vm) (H : Heap) : Prop := s0.WarmedH vm ∧ ∀ q : Nat, q < s0.heap.size → H[q]? = s0.heap[q]?
/-- a region, and what is new -/
def hr_A (lo n sz : Nat) : Nat → Prop := fun q => (lo ≤ q ∧ q < lo + n) ∨ sz ≤ q
/-- nothing outside the region has changed -/
def hr_kp (lo n : Nat) (H H1 : Heap) : Prop := H.size ≤ H1.size ∧ ∀ q : Nat, q < H.size → ¬ (lo ≤ q ∧ q < lo + n) → H1[q]? = H[q]?
theorem hr_kp.rf {lo n : Nat} {H : Heap} : hr_kp lo n H H := ⟨Nat.le_refl _, fun _ _ _ => rfl⟩
theorem hr_kp.tr {lo n : Nat} {H H1 H2 : Heap} (h1 : hr_kp lo n H H1) (h2 : hr_kp lo n H1 H2) : hr_kp lo n H H2 :=
  ⟨Nat.le_trans h1.1 h2.1, fun q a b => (h2.2 q (Nat.lt_of_lt_of_le a h1.1) b).trans (h1.2 q a b)⟩
/-- a contract of this claim: the law's start s0, the region [lo, lo + n), heap's size sz at the call -/
def hr_C (l : Launch) (y : MethodName) (ws : List Cond) (rm : Room) (s0 : State) (lo n sz : Nat) (av : List Value) (B : Heap → Prop) (Qb : Outcome → Heap → Prop) (mc ms : Nat) : Prop :=
  hr_M l y ws rm (fun v U => v = av.toArray ∧ U.heap.size = sz ∧ hr_B s0 U.vm U.heap ∧ B U.heap) (fun _ st o t => Qb o t.heap ∧ hr_kp lo n st.heap t.heap) mc ms (hr_A lo n sz)
/-- what a walk knows all through -/
def hr_X (p : Program) (s : State) (m : MethodId) (args : Array Value) (c : Code) (cc : ByteArray) (nL : Nat) (own : String) (s0 : State) (D : va_G) (g : ClassId × ClassId × ClassId) (A : Nat → Prop) : Prop :=
  CallFix p m c cc nL s args lw_all own ∧ hr_Z s0 D g ∧ hr_B s0 s.vm s.heap ∧ (∀ q : Nat, A q → s0.heap.size ≤ q) ∧ (∀ q : Nat, s.heap.size ≤ q → A q)
variable {p : Program} {l : Launch} {e : Env} {R : Room} {s : State} {m : MethodId} {args : Array Value} {below : List Frame} {meth : Method} {c : Code} {H : Heap} {locs : List Loc} {cells slots : Nat} {Q : State → Prop}
variable {cc : ByteArray} {nL : Nat} {own : String} {s0 : State} {D : va_G} {g : ClassId × ClassId × ClassId} {A : Nat → Prop} {pc : Nat} {ls : Array Slot} {rest : List Value} {a : Nat}
theorem hr_X.ex (X : hr_X p s m args c cc nL own s0 D g A) : p.tables.exec = Jvm.exec := X.1.1
theorem hr_X.by (X : hr_X p s m args c cc nL own s0 D g A) : c.code = cc := X.1.2.1
theorem hr_X.ml (X : hr_X p s m args c cc nL own s0 D g A) : c.maxLocals = nL := X.1.2.2.1
theorem hr_X.ow (X : hr_X p s m args c cc nL own s0 D g A) : s.vm.findClass own = some m.cls := X.1.2.2.2.1
theorem hr_X.ts (X : hr_X p s m args c cc nL own s0 D g A) : ∀ w ∈ lw_all, w.before args s = true := X.1.2.2.2.2
theorem hr_X.K (X : hr_X p s m args c cc nL own s0 D g A) : va_K D hr_cl (hr_ty g) s := by
  obtain ⟨-, ⟨b0, -, -, hK⟩, hB, -, -⟩ := X
  exact va_K.moved hB.1.alike hK
theorem hr_X.size (X : hr_X p s m args c cc nL own s0 D g A) : s0.heap.size ≤ s.heap.size := by
  obtain ⟨-, -, hB, -, -⟩ := X
  rcases Nat.lt_or_ge s.heap.size s0.heap.size with h | h
  · have h1 := hB.2 s.heap.size h
    have h2 : s0.heap[s.heap.size]? = none := by rw [← h1]; simp
    have h3 := Array.getElem?_eq_none_iff.mp h2
    omega
  · exact h
/-- a word of the tables that doesn't ride: a nest mate's field -/
theorem hr_X.nf (X : hr_X p s m args c cc nL own s0 D g A) {x : String} {i : Nat} {b n d h : String} (hw : Cond.fieldLinkNest x i b n d h ∈ lw_tbl) : (Cond.fieldLinkNest x i b n d h).before args s = true := by
  obtain ⟨-, ⟨b0, hz, -, -⟩, hB, -, -⟩ := X
  exact va_Nw.use rfl (va_Nw.warmF hB.1 (va_Nw.of rfl (hz _ hw)))
theorem hr_X.nm (X : hr_X p s m args c cc nL own s0 D g A) {x : String} {i : Nat} {y : MethodName} {h : String} (hw : Cond.methodLinkNest x i y h ∈ lw_tbl) : va_Nw (.methodLinkNest x i y h) s := by
  obtain ⟨-, ⟨b0, hz, -, -⟩, hB, -, -⟩ := X
  exact va_Nw.warmM hB.1 (va_Nw.of rfl (hz _ hw))
theorem hr_X.ao (X : hr_X p s m args c cc nL own s0 D g A) {C : String} (hw : Cond.arrayOver (.object C) ∈ lw_tbl) : va_AO C s := by
  obtain ⟨-, ⟨b0, hz, -, -⟩, hB, -, -⟩ := X
  exact va_AO.moved hB.1.alike (va_AO.of (hz _ hw))
/-- the heap at hand still holds what lay there at the law's start -/
theorem hr_X.B (X : hr_X p s m args c cc nL own s0 D g A) (hS : va_S A s.heap H locs) : ∀ q : Nat, q < s0.heap.size → H[q]? = s0.heap[q]? := by
  intro q hq
  have hz := X.size
  obtain ⟨-, -, hB, hA, -⟩ := X
  rw [hS.2.1 q (by omega) (fun h => by have := hA q h; omega)]
  exact hB.2 q hq
/-- a class of the list: its fields' words, types, names -/
def hr_In (ci : Nat) (C : String) (T : u_T) (N : Nat) (ty : Nat → FieldType) : Prop :=
  hr_cl[ci]? = some (C, T, N) ∧ (∀ w ∈ u_ws C T N, w ∈ lw_all) ∧ (∀ k, k < N → parseFieldDescriptor (T k).2.2.1 = some (ty k)) ∧ (∀ a, a < N → ∀ b, b < N → a ≠ b → (T a).2.1 ≠ (T b).2.1)
theorem hr_i0 : hr_In 0 RX0 TX0 17 tyX0 := ⟨rfl, in_X0, tyX0_ok, nmX0⟩
theorem hr_i1 : hr_In 1 RX1 TX1 2 tyX1 := ⟨rfl, in_X1, tyX1_ok, nmX1⟩
theorem hr_i2 : hr_In 2 RX3 TX3 1 tyX3 := ⟨rfl, in_X3, tyX3_ok, nmX3⟩
theorem hr_i3 : hr_In 3 RX2 TX2 17 tyX2 := ⟨rfl, in_X2, tyX2_ok, nmX2⟩
theorem hr_i4 : hr_In 4 RX4 TX4 7 tyX4 := ⟨rfl, in_X4, tyX4_ok, nmX4⟩
theorem hr_i5 : hr_In 5 RX6 TX6 7 tyX6 := ⟨rfl, in_X6, tyX6_ok, nmX6⟩
theorem hr_i6 : hr_In 6 RX5 TX5 6 tyX5 := ⟨rfl, in_X5, tyX5_ok, nmX5⟩
variable {ci N : Nat} {C : String} {T : u_T} {ty : Nat → FieldType}
theorem hr_get (X : hr_X p s m args c cc nL own s0 D g A) (I : hr_In ci C T N ty) {fs : List Value} (hO : t_OB a (D.1 ci) N (D.2 ci) H (vp_V fs)) (k : Nat) (hk : k < N) {v : Value} (hv : fs[k]? = some v) {index : Nat} (hl : Cond.fieldLink own index (T k).1 (T k).2.1 (T k).2.2.1 ∈ lw_all) (hdg : decode cc pc = .ok (.getfield index, 3))
    (kk : W p l e R s m args below meth c H locs cells slots Q (F0 m (pc + 3) ls (v :: rest))) : W p l e R s m args below meth c H locs cells slots Q (F0 m pc ls (.ref a :: rest)) := by
  obtain ⟨cell, q1, q2, q3, q4⟩ := hO
  obtain ⟨hS, hfc, kC, hkC, hkind⟩ := X.K.1 ci _ I.1
  obtain ⟨cf, kf, fi, f, hi, hsl⟩ := hS k hk
  refine W.getf X.ex X.by X.ow (X.ts _ hl) hi (u_facts hfc hkC (u_lays X.ts I.2.1 hk) hi).1 q1 (by rw [q3]; exact fun h => by cases h) (v := v) ?_ rfl rfl hdg kk
  rw [hsl, q4 k hk]
  simp [vp_V, hv]
theorem hr_getN (X : hr_X p s m args c cc nL own s0 D g A) (I : hr_In ci C T N ty) {fs : List Value} (hO : t_OB a (D.1 ci) N (D.2 ci) H (vp_V fs)) (k : Nat) (hk : k < N) {v : Value} (hv : fs[k]? = some v) {index : Nat} {host : String} (hl : Cond.fieldLinkNest own index (T k).1 (T k).2.1 (T k).2.2.1 host ∈ lw_tbl) (hdg : decode cc pc = .ok (.getfield index, 3))
    (kk : W p l e R s m args below meth c H locs cells slots Q (F0 m (pc + 3) ls (v :: rest))) : W p l e R s m args below meth c H locs cells slots Q (F0 m pc ls (.ref a :: rest)) := by
  obtain ⟨cell, q1, q2, q3, q4⟩ := hO
  obtain ⟨hS, hfc, kC, hkC, hkind⟩ := X.K.1 ci _ I.1
  obtain ⟨cf, kf, fi, f, hi, hsl⟩ := hS k hk
  refine va_Wgetf X.ex X.by X.ow (X.nf hl) hi (u_facts hfc hkC (u_lays X.ts I.2.1 hk) hi).1 q1 (by rw [q3]; exact fun h => by cases h) (v := v) ?_ rfl rfl hdg kk
  rw [hsl, q4 k hk]
  simp [vp_V, hv]
theorem hr_put (X : hr_X p s m args c cc nL own s0 D g A) (I : hr_In ci C T N ty) {fs : List Value} (hO : t_OB a (D.1 ci) N (D.2 ci) H (vp_V fs)) (k : Nat) (hk : k < N) (hkl : k < fs.length) (hfin : (T k).2.2.2 = false) {v : Value} (hn : narrow (ty k) v = v) (hfit : fits (ty k) v = true) {index : Nat} (hl : Cond.fieldLink own index (T k).1 (T k).2.1 (T k).2.2.1 ∈ lw_all) (hdg : decode cc pc = .ok (.putfield index, 3))
    (kk : ∀ H1 : Heap, t_OB a (D.1 ci) N (D.2 ci) H1 (vp_V (fs.set k v)) → H1.size = H.size → (∀ q : Nat, q ≠ a → H1[q]? = H[q]?) → W p l e R s m args below meth c H1 (locs ++ [⟨a, D.2 ci k⟩]) cells slots Q (F0 m (pc + 3) ls rest)) : W p l e R s m args below meth c H locs cells slots Q (F0 m pc ls (v :: .ref a :: rest)) := by
  have hap := va_apart (own := own) X.ts I.2.1 ty I.2.2.1 I.2.2.2 X.K I.1
  obtain ⟨cell, q1, q2, q3, q4⟩ := hO
  obtain ⟨hS, hfc, kC, hkC, hkind⟩ := X.K.1 ci _ I.1
  obtain ⟨cf, kf, fi, f, hi, hsl⟩ := hS k hk
  have hlay := X.ts _ (I.2.1 _ (u_in_lay hk))
  unfold u_lay at hlay
  rw [if_neg (by rw [hfin]; decide)] at hlay
  have hst := (u_facts hfc hkC (u_lays X.ts I.2.1 hk) hi).1
  have h6 := u_store hfc hkC hkind hlay hi (I.2.2.1 k hk) hn hfit
  refine W.putK X.ex X.by (f := f) ⟨X.ow, X.ts _ hl, ⟨_, _, _, hi⟩, hst⟩ (by rw [q2]; exact h6) q1 q3 (by rw [hsl]; exact k2_hasslot (q4 k hk)) rfl rfl hdg fun H' e1 e2 e3 => ?_
  rw [hsl] at e1 ⊢
  exact kk H' (t_OB.to (V := updV (vp_V fs) k v) ⟨_, e1, q2, q3, t_set q4 hap hk v⟩ (fun j _ => vp_updV_set hkl v j)) e2 e3
theorem hr_putN (X : hr_X p s m args c cc nL own s0 D g A) (I : hr_In ci C T N ty) {fs : List Value} (hO : t_OB a (D.1 ci) N (D.2 ci) H (vp_V fs)) (k : Nat) (hk : k < N) (hkl : k < fs.length) (hfin : (T k).2.2.2 = false) {v : Value} (hn : narrow (ty k) v = v) (hfit : fits (ty k) v = true) {index : Nat} {host : String} (hl : Cond.fieldLinkNest own index (T k).1 (T k).2.1 (T k).2.2.1 host ∈ lw_tbl) (hdg : decode cc pc = .ok (.putfield index, 3))
    (kk : ∀ H1 : Heap, t_OB a (D.1 ci) N (D.2 ci) H1 (vp_V (fs.set k v)) → H1.size = H.size → (∀ q : Nat, q ≠ a → H1[q]? = H[q]?) → W p l e R s m args below meth c H1 (locs ++ [⟨a, D.2 ci k⟩]) cells slots Q (F0 m (pc + 3) ls rest)) : W p l e R s m args below meth c H locs cells slots Q (F0 m pc ls (v :: .ref a :: rest)) := by
  have hap := va_apart (own := own) X.ts I.2.1 ty I.2.2.1 I.2.2.2 X.K I.1
  obtain ⟨cell, q1, q2, q3, q4⟩ := hO
  obtain ⟨hS, hfc, kC, hkC, hkind⟩ := X.K.1 ci _ I.1
  obtain ⟨cf, kf, fi, f, hi, hsl⟩ := hS k hk
  have hlay := X.ts _ (I.2.1 _ (u_in_lay hk))
  unfold u_lay at hlay
  rw [if_neg (by rw [hfin]; decide)] at hlay
  have hst := (u_facts hfc hkC (u_lays X.ts I.2.1 hk) hi).1
  have h6 := u_store hfc hkC hkind hlay hi (I.2.2.1 k hk) hn hfit
  refine va_WputK X.ex X.by (f := f) X.ow (X.nf hl) hi hst (by rw [q2]; exact h6) q1 q3 (by rw [hsl]; exact k2_hasslot (q4 k hk)) rfl rfl hdg fun H' e1 e2 e3 => ?_
  rw [hsl] at e1 ⊢
  exact kk H' (t_OB.to (V := updV (vp_V fs) k v) ⟨_, e1, q2, q3, t_set q4 hap hk v⟩ (fun j _ => vp_updV_set hkl v j)) e2 e3
/-- a final field, in its own constructor -/
theorem hr_putF (X : hr_X p s m args c cc nL own s0 D g A) (I : hr_In ci C T N ty) {fs : List Value} (hO : t_OB a (D.1 ci) N (D.2 ci) H (vp_V fs)) (k : Nat) (hk : k < N) (hkl : k < fs.length) (hfin : (T k).2.2.2 = true) (hin2 : meth.name = "<init>") (hdecl : (T k).1 = own) {v : Value} (hn : narrow (ty k) v = v) (hfit : fits (ty k) v = true) {index : Nat} (hl : Cond.fieldLink own index (T k).1 (T k).2.1 (T k).2.2.1 ∈ lw_all) (hdg : decode cc pc = .ok (.putfield index, 3))
    (kk : ∀ H1 : Heap, t_OB a (D.1 ci) N (D.2 ci) H1 (vp_V (fs.set k v)) → H1.size = H.size → (∀ q : Nat, q ≠ a → H1[q]? = H[q]?) → W p l e R s m args below meth c H1 (locs ++ [⟨a, D.2 ci k⟩]) cells slots Q (F0 m (pc + 3) ls rest)) : W p l e R s m args below meth c H locs cells slots Q (F0 m pc ls (v :: .ref a :: rest)) := by
  have hap := va_apart (own := own) X.ts I.2.1 ty I.2.2.1 I.2.2.2 X.K I.1
  obtain ⟨cell, q1, q2, q3, q4⟩ := hO
  obtain ⟨hS, hfc, kC, hkC, hkind⟩ := X.K.1 ci _ I.1
  obtain ⟨cf, kf, fi, f, hi, hsl⟩ := hS k hk
  have hlay := X.ts _ (I.2.1 _ (u_in_lay hk))
  unfold u_lay at hlay
  rw [if_pos hfin] at hlay
  have hst := (u_facts hfc hkC (u_lays X.ts I.2.1 hk) hi).1
  have hcf : m.cls = cf := by
    obtain ⟨_, _, c', _, _, _, -, -, hf', -, -, -, hown2, -⟩ := Cond.laysFinal_spec hlay
    have e1 : c' = cf := by have := hi.symm.trans hf'; simp at this; exact this.1.symm
    rw [hdecl] at hown2
    rw [← e1]; exact Option.some.inj (X.ow.symm.trans hown2)
  have h6 := u_fits hfc hkC hkind (Or.inr hlay) hi (I.2.2.1 k hk) hn hfit
  refine W.putFinK X.ex X.by X.ow (X.ts _ hl) hi hst hcf hin2 (by rw [q2]; exact h6) q1 q3 (by rw [hsl]; exact k2_hasslot (q4 k hk)) rfl rfl hdg fun H' e1 e2 e3 => ?_
  rw [hsl] at e1 ⊢
  exact kk H' (t_OB.to (V := updV (vp_V fs) k v) ⟨_, e1, q2, q3, t_set q4 hap hk v⟩ (fun j _ => vp_updV_set hkl v j)) e2 e3
theorem hr_recv (X : hr_X p s m args c cc nL own s0 D g A) (I : hr_In ci C T N ty) {V : Nat → Value} (hO : t_OB a (D.1 ci) N (D.2 ci) H V) : ∃ cell : Cell, H[a]? = some cell ∧ cell.vm.isStatics = false ∧ s.vm.findClass C = some cell.cls := by
  obtain ⟨cell, q1, q2, q3, q4⟩ := hO
  exact ⟨cell, q1, by rw [q3]; rfl, by rw [q2]; exact (X.K.1 ci _ I.1).2.1⟩
theorem hr_iald (X : hr_X p s m args c cc nL own s0 D g A) {n : Nat} {f : Nat → Int32} (ha : H[a]? = some (arrV g.1 n (fun j => .int (f j)))) {i : Int32} {j : Nat} (hi : i = nI j) (hj : j < n) (hn : n < 2 ^ 31) (hdg : decode cc pc = .ok (.iaload, 1))
    (kk : W p l e R s m args below meth c H locs cells slots Q (F0 m (pc + 1) ls (.int (f j) :: rest))) : W p l e R s m args below meth c H locs cells slots Q (F0 m pc ls (.int i :: .ref a :: rest)) := by
  subst hi
  have hc : (nI j).toNatClampNeg = j := nI_clamp (by omega)
  refine W.iald (v := .int (f j)) X.ex X.by ha ((X.K.2 0 _ rfl).1 n (fun j => .int (f j))) (fun q => by cases q) (by rw [arrV_size]; exact nI_in hj hn) (by rw [hc, arrV_read _ _ hj]) rfl rfl hdg kk
theorem hr_iast (X : hr_X p s m args c cc nL own s0 D g A) {n : Nat} {f : Nat → Int32} (ha : H[a]? = some (arrV g.1 n (fun j => .int (f j)))) {i x : Int32} {j : Nat} (hi : i = nI j) (hj : j < n) (hn : n < 2 ^ 31) (hdg : decode cc pc = .ok (.iastore, 1))
    (kk : ∀ H1 : Heap, H1[a]? = some (arrV g.1 n (fun k => .int (upd f j x k))) → H1.size = H.size → (∀ q : Nat, q ≠ a → H1[q]? = H[q]?) → W p l e R s m args below meth c H1 (locs ++ [⟨a, j⟩]) cells slots Q (F0 m (pc + 1) ls rest)) : W p l e R s m args below meth c H locs cells slots Q (F0 m pc ls (.int x :: .int i :: .ref a :: rest)) := by
  subst hi
  have hc : (nI j).toNatClampNeg = j := nI_clamp (by omega)
  refine W.iast X.ex X.by ha ((X.K.2 0 _ rfl).1 n (fun j => .int (f j))) (fun q => by cases q) (by rw [arrV_size]; exact nI_in hj hn) rfl rfl hdg fun H1 e z oq => ?_
  rw [hc] at e ⊢
  refine kk H1 ?_ z oq
  rw [e, arrV_store]
  congr 2
  funext q
  by_cases hq : q = j
  · subst hq; simp [updV, upd]
  · simp [updV, upd, hq]
theorem hr_aald (X : hr_X p s m args c cc nL own s0 D g A) {n t0 : Nat} {cA : ClassId} {E : String} (ht : (hr_ty g)[t0]? = some (cA, .object E)) {f : Nat → Value} (ha : H[a]? = some (arrV cA n f)) {i : Int32} {j : Nat} (hi : i = nI j) (hj : j < n) (hn : n < 2 ^ 31) (hdg : decode cc pc = .ok (.aaload, 1))
    (kk : W p l e R s m args below meth c H locs cells slots Q (F0 m (pc + 1) ls (f j :: rest))) : W p l e R s m args below meth c H locs cells slots Q (F0 m pc ls (.int i :: .ref a :: rest)) := by
  subst hi
  have hc : (nI j).toNatClampNeg = j := nI_clamp (by omega)
  exact W.aald (v := f j) (ty := .object E) X.ex X.by ha ((X.K.2 t0 _ ht).1 n f) rfl (fun q => by cases q) (by rw [arrV_size]; exact nI_in hj hn) (by rw [hc, arrV_read _ _ hj]) rfl rfl hdg kk
/-- an object is stored into an array of its class -/
theorem hr_aast (X : hr_X p s m args c cc nL own s0 D g A) {n t0 : Nat} {cA : ClassId} (I : hr_In ci C T N ty) (ht : (hr_ty g)[t0]? = some (cA, .object C)) {f : Nat → Value} (ha : H[a]? = some (arrV cA n f)) {i : Int32} {j v : Nat} {V : Nat → Value} (hO : t_OB v (D.1 ci) N (D.2 ci) H V) (hi : i = nI j) (hj : j < n) (hn : n < 2 ^ 31) (hdg : decode cc pc = .ok (.aastore, 1))
    (kk : ∀ H1 : Heap, H1[a]? = some (arrV cA n (updV f j (.ref v))) → H1.size = H.size → (∀ q : Nat, q ≠ a → H1[q]? = H[q]?) → W p l e R s m args below meth c H1 (locs ++ [⟨a, j⟩]) cells slots Q (F0 m (pc + 1) ls rest)) : W p l e R s m args below meth c H locs cells slots Q (F0 m pc ls (.ref v :: .int i :: .ref a :: rest)) := by
  subst hi
  have hc : (nI j).toNatClampNeg = j := nI_clamp (by omega)
  have h0 : ¬ nI j < 0 := nI_pos (by omega)
  obtain ⟨cellV, g1, g2, g3, -⟩ := hO
  have hcls := (X.K.1 ci _ I.1).2
  obtain ⟨kA, comp, k1, k2, k3, -⟩ := (X.K.2 t0 _ ht).2
  have hcomp : comp = D.1 ci := Option.some.inj (k3.symm.trans hcls.1)
  subst hcomp
  obtain ⟨kC, hkC, -⟩ := hcls.2
  refine W.aast X.ex X.by ha (fun q h => by cases h) (fun h => by cases h) k1 k2 rfl hkC ⟨h0, by rw [arrV_size, hc]; exact hj⟩ g1 (fun q h => by rw [g3] at h; cases h) (by rw [g2]; exact hkC) (by rw [g2]; exact va_assign hcls) rfl rfl hdg fun H1 e z oq => ?_
  rw [hc] at e ⊢
  refine kk H1 ?_ z oq
  rw [e, arrV_store]
theorem hr_aastN (X : hr_X p s m args c cc nL own s0 D g A) {n t0 : Nat} {cA : ClassId} {E : String} (ht : (hr_ty g)[t0]? = some (cA, .object E)) {f : Nat → Value} (ha : H[a]? = some (arrV cA n f)) {i : Int32} {j : Nat} (hi : i = nI j) (hj : j < n) (hn : n < 2 ^ 31) (hdg : decode cc pc = .ok (.aastore, 1))
    (kk : ∀ H1 : Heap, H1[a]? = some (arrV cA n (updV f j .null)) → H1.size = H.size → (∀ q : Nat, q ≠ a → H1[q]? = H[q]?) → W p l e R s m args below meth c H1 (locs ++ [⟨a, j⟩]) cells slots Q (F0 m (pc + 1) ls rest)) : W p l e R s m args below meth c H locs cells slots Q (F0 m pc ls (.null :: .int i :: .ref a :: rest)) := by
  subst hi
  have hc : (nI j).toNatClampNeg = j := nI_clamp (by omega)
  refine va_WaastN (C := E) X.ex X.by ha ((X.K.2 t0 _ ht).1 n f) (fun h => by cases h) (by rw [arrV_size]; exact nI_in hj hn) rfl rfl hdg fun H1 e z oq => ?_
  rw [hc] at e ⊢
  refine kk H1 ?_ z oq
  rw [e, arrV_store]
/-- new -/
theorem hr_new (X : hr_X p s m args c cc nL own s0 D g A) (I : hr_In ci C T N ty) {index : Nat} (hcl : Cond.classLink own index C ∈ lw_all) (hinst : Cond.instantiable C N ∈ lw_all) (hini : Cond.initialized C ∈ lw_all) {fs : List Value} (hfs : ∀ j, j < N → defaultValue (ty j) = vp_V fs j) (hcells : cells + 1 ≤ R.cells) (hslots : slots + N ≤ R.slots) (hdg : decode cc pc = .ok (.new index, 3))
    (kk : ∀ H1 : Heap, t_OB H.size (D.1 ci) N (D.2 ci) H1 (vp_V fs) → (∃ kC : Class, H1[H.size]? = some (blank (D.1 ci) kC)) → H1.size = H.size + 1 → (∀ q : Nat, q < H.size → H1[q]? = H[q]?) →
      W p l e R s m args below meth c H1 locs (cells + 1) (slots + N) Q (F0 m (pc + 3) ls (.ref H.size :: rest))) : W p l e R s m args below meth c H locs cells slots Q (F0 m pc ls rest) := by
  have hKn := X.K.1 ci _ I.1
  refine W.newcK X.ex X.by X.ow (X.ts _ hcl) (X.ts _ hinst) (X.ts _ hini) rfl hdg hcells hslots hKn.2.1 rfl fun H1 kC hkC e1 z1 o1 => ?_
  exact kk H1 ((u_born ty X.ts I.2.1 hKn hkC e1 I.2.2.1).to hfs) ⟨kC, e1⟩ z1 o1
theorem hr_newa (X : hr_X p s m args c cc nL own s0 D g A) {n : Int32} {N' : Nat} (hn : ¬ n < 0) (hN : n.toNatClampNeg = N') (hb : N' * 4 ≤ 536870912) (hcells : cells + 1 ≤ R.cells) (hslots : slots + N' ≤ R.slots) (hdg : decode cc pc = .ok (.newarray .int, 2))
    (kk : ∀ H1 : Heap, H1[H.size]? = some (arrV g.1 N' (fun _ => .int 0)) → H1.size = H.size + 1 → (∀ q : Nat, q < H.size → H1[q]? = H[q]?) →
      W p l e R s m args below meth c H1 locs (cells + 1) (slots + N') Q (F0 m (pc + 2) ls (.ref H.size :: rest))) : W p l e R s m args below meth c H locs cells slots Q (F0 m pc ls (.int n :: rest)) := by
  refine va_newaK X.ex X.by (atype := .int) (X.ts _ q66) rfl hdg rfl hn hN hb hcells hslots rfl fun H1 cA e1 z1 o1 hAr hNm => ?_
  have hA : cA = g.1 := Option.some.inj (hNm.symm.trans (X.K.2 0 _ rfl).2)
  subst hA
  exact kk H1 e1 z1 o1
theorem hr_anew (X : hr_X p s m args c cc nL own s0 D g A) {E : String} {t0 index : Nat} {cA : ClassId} (ht : (hr_ty g)[t0]? = some (cA, .object E)) (hcl : Cond.classLink own index E ∈ lw_all) (hao : Cond.arrayOver (.object E) ∈ lw_tbl) {n : Int32} {N' : Nat} (hn : ¬ n < 0) (hN : n.toNatClampNeg = N') (hb : N' * 4 ≤ 536870912) (hcells : cells + 1 ≤ R.cells) (hslots : slots + N' ≤ R.slots) (hdg : decode cc pc = .ok (.anewarray index, 3))
    (kk : ∀ H1 : Heap, H1[H.size]? = some (arrV cA N' (fun _ => .null)) → H1.size = H.size + 1 → (∀ q : Nat, q < H.size → H1[q]? = H[q]?) →
      W p l e R s m args below meth c H1 locs (cells + 1) (slots + N') Q (F0 m (pc + 3) ls (.ref H.size :: rest))) : W p l e R s m args below meth c H locs cells slots Q (F0 m pc ls (.int n :: rest)) := by
  subst hN
  refine W.anew X.ex X.by X.ow (X.ts _ hcl) (va_AO.use (X.ao hao)) rfl hdg rfl hn hb hcells hslots fun cB kA comp f1 f2 f3 f4 => ?_
  obtain ⟨kA', comp', k1, k2, k3, k4⟩ := (X.K.2 t0 _ ht).2
  have hA : cB = cA := Option.some.inj (f1.symm.trans k4)
  subst hA
  refine kk _ ?_ ?_ ?_
  · rw [Array.getElem?_push_size, ← arrV_new]
  · rw [Array.size_push]
  · intro q hq
    rw [Array.getElem?_push, if_neg (Nat.ne_of_lt hq)]
/-! calls by this claim's contracts -/
theorem hr_blind {av : List Value} {sz : Nat} {B : Heap → Prop} : FrameBlind (fun v U => v = av.toArray ∧ U.heap.size = sz ∧ hr_B s0 U.vm U.heap ∧ B U.heap) := fun _ _ _ _ h => h
theorem hr_Sv {lo n : Nat} {H1 : Heap} {L : List Loc} (hS : va_S A s.heap H locs) (hA : ∀ q : Nat, s.heap.size ≤ q → A q) (hr : ∀ q : Nat, lo ≤ q → q < lo + n → A q) (hk : hr_kp lo n H H1) (hL : ∀ q ∈ L, hr_A lo n H.size q.base) : va_S A s.heap H1 (locs ++ L) := by
  refine ⟨Nat.le_trans hS.1 hk.1, fun q h1 h2 => ?_, fun x hx => ?_⟩
  · rw [hk.2 q (Nat.lt_of_lt_of_le h1 hS.1) (fun h => h2 (hr q h.1 h.2))]
    exact hS.2.1 q h1 h2
  · rcases List.mem_append.mp hx with h | h
    · exact hS.2.2 x h
    · rcases hL x h with ⟨h1, h2⟩ | h1
      · exact hr _ h1 h2
      · exact hA _ (Nat.le_trans hS.1 h1)
variable {lo n : Nat} {y : MethodName} {ws : List Cond} {rm : Room} {B : Heap → Prop} {Qb : Outcome → Heap → Prop} {mc ms maxL ar index : Nat} {b : Nat} {As : List Value}
theorem hr_callV (X : hr_X p s m args c cc nL own s0 D g A) (hC : hr_C l y ws rm s0 lo n H.size (.ref b :: As) B Qb mc ms) (V : hr_V own index y maxL ar) (hG : GoodIn lw_all ws) (hS : va_S A s.heap H locs) (hr : ∀ q : Nat, lo ≤ q → q < lo + n → A q)
    (hrecv : ∃ cell : Cell, H[b]? = some cell ∧ cell.vm.isStatics = false ∧ s.vm.findClass y.cls = some cell.cls) (hB : B H) (hrc : rm.cells = mc) (hrs : rm.slots = ms) (hR : rm.frames + 1 ≤ R.frames ∧ 8 + (maxL + 11) + rm.locals ≤ R.locals) (hsize : ls.size = nL) (hn : As.length = ar) (hW : (rest.map fun v => v.category).sum ≤ 8)
    (hf : cells + mc ≤ R.cells ∧ slots + ms ≤ R.slots) (hdg : decode cc pc = .ok (.invokevirtual index, 3))
    (kk : ∀ (o : Outcome) (H1 : Heap) (locs1 : List Loc), Qb o H1 → va_S A s.heap H1 locs1 → hr_kp lo n H H1 → hr_K p l e R s m args below meth c H1 locs1 (cells + mc) (slots + ms) Q pc ls rest o) :
    W p l e R s m args below meth c H locs cells slots Q (F0 m pc ls (As.reverse ++ .ref b :: rest)) := by
  refine hr_go (hr_runV (g := F0 m pc ls (As.reverse ++ .ref b :: rest)) X.1 hC V hG hrc hrs hR ⟨hr_blind, hrecv, fun U hU hW => ⟨rfl, by rw [hU], ⟨State.WarmedH.trans (t := s) X.2.2.1.1 hW, by rw [hU]; exact X.B hS⟩, by rw [hU]; exact hB⟩⟩ rfl hn hsize rfl (lv_room hW) hdg hf) ?_
  intro o st₀ t H1 L h0 ht hvm hq hL
  subst ht
  rw [h0] at hq
  exact kk o t.heap (locs ++ L) hq.1 (hr_Sv hS X.2.2.2.2 hr hq.2 hL) hq.2
theorem hr_callS (X : hr_X p s m args c cc nL own s0 D g A) (hC : hr_C l y ws rm s0 lo n H.size As B Qb mc ms) (V : hr_S own index y maxL ar) (hG : GoodIn lw_all ws) (hS : va_S A s.heap H locs) (hr : ∀ q : Nat, lo ≤ q → q < lo + n → A q)
    (hB : B H) (hrc : rm.cells = mc) (hrs : rm.slots = ms) (hR : rm.frames + 1 ≤ R.frames ∧ 8 + (maxL + 11) + rm.locals ≤ R.locals) (hsize : ls.size = nL) (hn : As.length = ar) (hW : (rest.map fun v => v.category).sum ≤ 8)
    (hf : cells + mc ≤ R.cells ∧ slots + ms ≤ R.slots) (hdg : decode cc pc = .ok (.invokestatic index, 3))
    (kk : ∀ (o : Outcome) (H1 : Heap) (locs1 : List Loc), Qb o H1 → va_S A s.heap H1 locs1 → hr_kp lo n H H1 → hr_K p l e R s m args below meth c H1 locs1 (cells + mc) (slots + ms) Q pc ls rest o) :
    W p l e R s m args below meth c H locs cells slots Q (F0 m pc ls (As.reverse ++ rest)) := by
  refine hr_go (hr_runS (g := F0 m pc ls (As.reverse ++ rest)) X.1 hC V hG hrc hrs hR ⟨hr_blind, fun U hU hW => ⟨rfl, by rw [hU], ⟨State.WarmedH.trans (t := s) X.2.2.1.1 hW, by rw [hU]; exact X.B hS⟩, by rw [hU]; exact hB⟩⟩ rfl hn hsize rfl (lv_room hW) hdg hf) ?_
  intro o st₀ t H1 L h0 ht hvm hq hL
  subst ht
  rw [h0] at hq
  exact kk o t.heap (locs ++ L) hq.1 (hr_Sv hS X.2.2.2.2 hr hq.2 hL) hq.2
theorem hr_callI (X : hr_X p s m args c cc nL own s0 D g A) (hC : hr_C l y ws rm s0 lo n H.size (.ref b :: As) B Qb mc ms) (V : hr_I own index y maxL ar) (hG : GoodIn lw_all ws) (hS : va_S A s.heap H locs) (hr : ∀ q : Nat, lo ≤ q → q < lo + n → A q)
    (hB : B H) (hrc : rm.cells = mc) (hrs : rm.slots = ms) (hR : rm.frames + 1 ≤ R.frames ∧ 8 + (maxL + 11) + rm.locals ≤ R.locals) (hsize : ls.size = nL) (hn : As.length = ar) (hW : (rest.map fun v => v.category).sum ≤ 8)
    (hf : cells + mc ≤ R.cells ∧ slots + ms ≤ R.slots) (hdg : decode cc pc = .ok (.invokespecial index, 3))
    (kk : ∀ (o : Outcome) (H1 : Heap) (locs1 : List Loc), Qb o H1 → va_S A s.heap H1 locs1 → hr_kp lo n H H1 → hr_K p l e R s m args below meth c H1 locs1 (cells + mc) (slots + ms) Q pc ls rest o) :
    W p l e R s m args below meth c H locs cells slots Q (F0 m pc ls (As.reverse ++ .ref b :: rest)) := by
  refine hr_go (hr_runI (g := F0 m pc ls (As.reverse ++ .ref b :: rest)) X.1 hC V hG hrc hrs hR ⟨hr_blind, fun U hU hW => ⟨rfl, by rw [hU], ⟨State.WarmedH.trans (t := s) X.2.2.1.1 hW, by rw [hU]; exact X.B hS⟩, by rw [hU]; exact hB⟩⟩ rfl hn hsize rfl (lv_room hW) hdg hf) ?_
  intro o st₀ t H1 L h0 ht hvm hq hL
  subst ht
  rw [h0] at hq
  exact kk o t.heap (locs ++ L) hq.1 (hr_Sv hS X.2.2.2.2 hr hq.2 hL) hq.2
end HRW
end
section
/-! THE TWO PICTURES: the class's 20 cells from b on, its hands from z on; the reference's 7 cells from m on -/
section HRP
/-- the class's fields -/
abbrev hr_cf (b : Nat) (ta lo tot bg li mr ro br lm nt fa ca la sp : Int32) : List Value := [.ref (b + 1), .ref (b + 2), .int ta, .int lo, .int tot, .int bg, .int li, .int mr, .int ro, .int br, .int lm, .int nt, .ref (b + 3), .int fa, .int ca, .int la, .int sp]
def hr_cw (D : va_G) (g : ClassId × ClassId × ClassId) (b z : Nat) (fs : List Value) (M : Nat → Nat) (C : Nat → Nat → Int32) (h : Nat → Int32) (js : List Int32) (H : Heap) : Prop :=
  b + 20 ≤ z ∧ t_OB b (D.1 0) 17 (D.2 0) H (vp_V fs) ∧ H[b + 1]? = some (arrV g.2.1 8 (fun i => .ref (b + 4 + 2 * i))) ∧
  (∃ J : Nat → Int32, H[b + 3]? = some (arrV g.1 2800 (fun i => .int (J i))) ∧ hp_jr js J) ∧
  (∀ i, i < 8 → t_OB (b + 4 + 2 * i) (D.1 1) 2 (D.2 1) H (vp_V [.ref (b + 5 + 2 * i), .int (nI (M i))])) ∧
  (∀ i, i < 8 → H[b + 5 + 2 * i]? = some (arrV g.1 12 (fun k => .int (C i k)))) ∧
  (∃ G : Nat → Option Nat, H[b + 2]? = some (arrV g.2.2 4 (fun k => va_rf (G k))) ∧ ∀ k, k < 4 → (G k = none ∧ h k = 0) ∨ ∃ a, G k = some a ∧ h k ≠ 0 ∧ z ≤ a ∧ t_OB a (D.1 2) 1 (D.2 2) H (vp_V [.int (h k)]))
/-- the reference's fields -/
abbrev hr_tf (m : Nat) (ta lo tot fa ca la sp bg mr nt dp : Int32) : List Value := [.ref (m + 1), .ref (m + 2), .ref (m + 3), .int ta, .int lo, .int tot, .int fa, .int ca, .int la, .int sp, .int bg, .int mr, .int nt, .ref (m + 4), .int dp, .ref (m + 5), .ref (m + 6)]
def hr_tw (D : va_G) (g : ClassId × ClassId × ClassId) (m : Nat) (fs : List Value) (M : Nat → Nat) (C : Nat → Nat → Int32) (h : Nat → Int32) (js : List Int32) (rk at' : Nat → Int32) (H : Heap) : Prop :=
  t_OB m (D.1 3) 17 (D.2 3) H (vp_V fs) ∧ H[m + 1]? = some (arrV g.1 8 (fun i => .int (nI (M i)))) ∧ H[m + 2]? = some (arrV g.1 96 (fun i => .int (C (i / 12) (i % 12)))) ∧ H[m + 3]? = some (arrV g.1 4 (fun i => .int (h i))) ∧
  (∃ N : Nat → Int32, H[m + 4]? = some (arrV g.1 6000 (fun i => .int (N i))) ∧ hp_jr js N) ∧ H[m + 5]? = some (arrV g.1 6 (fun i => .int (rk i))) ∧ H[m + 6]? = some (arrV g.1 6 (fun i => .int (at' i)))
theorem hr_lt {H : Heap} {a : Nat} {c : Cell} (h : H[a]? = some c) : a < H.size := (Array.getElem?_eq_some_iff.mp h).1
theorem hr_olt {a N : Nat} {c : ClassId} {iS : Nat → Nat} {H : Heap} {V : Nat → Value} (h : t_OB a c N iS H V) : a < H.size := by
  obtain ⟨cell, h1, -⟩ := h
  exact hr_lt h1
variable {D : va_G} {g : ClassId × ClassId × ClassId} {b z : Nat} {fs : List Value} {M : Nat → Nat} {C : Nat → Nat → Int32} {h : Nat → Int32} {js : List Int32} {rk at' : Nat → Int32} {H H1 : Heap}
/-- the class's cells stay where nobody writes them -/
theorem hr_cw.kept (hC : hr_cw D g b z fs M C h js H) (hk : ∀ q : Nat, q < H.size → (b ≤ q ∧ q < b + 20) ∨ z ≤ q → H1[q]? = H[q]?) : hr_cw D g b z fs M C h js H1 := by
  obtain ⟨hz, h0, h1, ⟨J, h3, hj⟩, h4, h5, G, h2, hG⟩ := hC
  refine ⟨hz, h0.kept (hk b (hr_olt h0) (by omega)), by rw [hk _ (hr_lt h1) (by omega)]; exact h1, ⟨J, by rw [hk _ (hr_lt h3) (by omega)]; exact h3, hj⟩, fun i hi => (h4 i hi).kept (hk _ (hr_olt (h4 i hi)) (by omega)), fun i hi => by rw [hk _ (hr_lt (h5 i hi)) (by omega)]; exact h5 i hi, G, by rw [hk _ (hr_lt h2) (by omega)]; exact h2, fun k hk4 => ?_⟩
  rcases hG k hk4 with hn | ⟨a, g1, g2, g3, g4⟩
  · exact Or.inl hn
  · exact Or.inr ⟨a, g1, g2, g3, g4.kept (hk a (hr_olt g4) (Or.inr g3))⟩
theorem hr_tw.kept {m : Nat} (hT : hr_tw D g m fs M C h js rk at' H) (hk : ∀ q : Nat, q < H.size → m ≤ q → q < m + 7 → H1[q]? = H[q]?) : hr_tw D g m fs M C h js rk at' H1 := by
  obtain ⟨h0, h1, h2, h3, ⟨N, h4, hj⟩, h5, h6⟩ := hT
  refine ⟨h0.kept (hk m (hr_olt h0) (by omega) (by omega)), by rw [hk _ (hr_lt h1) (by omega) (by omega)]; exact h1, by rw [hk _ (hr_lt h2) (by omega) (by omega)]; exact h2, by rw [hk _ (hr_lt h3) (by omega) (by omega)]; exact h3, ⟨N, by rw [hk _ (hr_lt h4) (by omega) (by omega)]; exact h4, hj⟩, by rw [hk _ (hr_lt h5) (by omega) (by omega)]; exact h5, by rw [hk _ (hr_lt h6) (by omega) (by omega)]; exact h6⟩
theorem hr_one {s : State} {A : Nat → Prop} {locs : List Loc} {lo n a i : Nat} (hS : va_S A s.heap H locs) (hr : ∀ q : Nat, lo ≤ q → q < lo + n → A q) (h1 : lo ≤ a) (h2 : a < lo + n) (z : H1.size = H.size) (oq : ∀ q : Nat, q ≠ a → H1[q]? = H[q]?) : va_S A s.heap H1 (locs ++ [⟨a, i⟩]) ∧ hr_kp lo n H H1 :=
  ⟨hS.put z oq (hr a h1 h2), by rw [z]; exact Nat.le_refl _, fun q _ hq => oq q (fun e => hq (by rw [e]; exact ⟨h1, h2⟩))⟩
variable {p : Program} {l : Launch} {e : Env} {R : Room} {s : State} {m0 : MethodId} {args : Array Value} {below : List Frame} {meth : Method} {c : Code} {locs : List Loc} {cells slots : Nat} {Q : State → Prop}
variable {cc : ByteArray} {nL : Nat} {own : String} {s0 : State} {A : Nat → Prop} {pc : Nat} {ls : Array Slot} {rest : List Value}
theorem hr_cget (X : hr_X p s m0 args c cc nL own s0 D g A) (hC : hr_cw D g b z fs M C h js H) (k : Nat) (hk : k < 17) {v : Value} (hv : fs[k]? = some v) {index : Nat} (hl : Cond.fieldLink own index (TX0 k).1 (TX0 k).2.1 (TX0 k).2.2.1 ∈ lw_all) (hdg : decode cc pc = .ok (.getfield index, 3))
    (kk : W p l e R s m0 args below meth c H locs cells slots Q (F0 m0 (pc + 3) ls (v :: rest))) : W p l e R s m0 args below meth c H locs cells slots Q (F0 m0 pc ls (.ref b :: rest)) := hr_get X hr_i0 hC.2.1 k hk hv hl hdg kk
theorem hr_cput (X : hr_X p s m0 args c cc nL own s0 D g A) (hC : hr_cw D g b z fs M C h js H) (hS : va_S A s.heap H locs) (hr : ∀ q : Nat, b ≤ q → q < b + 20 → A q) (k : Nat) (hk : k < 17) (hkl : k < fs.length) (hfin : (TX0 k).2.2.2 = false) (hty : tyX0 k = .int) {x : Int32} {index : Nat} (hl : Cond.fieldLink own index (TX0 k).1 (TX0 k).2.1 (TX0 k).2.2.1 ∈ lw_all) (hdg : decode cc pc = .ok (.putfield index, 3))
    (kk : ∀ (H1 : Heap) (locs1 : List Loc), hr_cw D g b z (fs.set k (.int x)) M C h js H1 → va_S A s.heap H1 locs1 → hr_kp b 20 H H1 → W p l e R s m0 args below meth c H1 locs1 cells slots Q (F0 m0 (pc + 3) ls rest)) : W p l e R s m0 args below meth c H locs cells slots Q (F0 m0 pc ls (.int x :: .ref b :: rest)) := by
  refine hr_put X hr_i0 hC.2.1 k hk hkl hfin (v := .int x) (by rw [hty]; rfl) (by rw [hty]; rfl) hl hdg fun H1 hO zz oq => ?_
  obtain ⟨o1, o2⟩ := hr_one (i := D.2 0 k) hS hr (Nat.le_refl b) (by omega) zz oq
  obtain ⟨hz, h0, h1, ⟨J, h3, hj⟩, h4, h5, G, h2, hG⟩ := hC
  refine kk H1 _ ⟨hz, hO, by rw [oq _ (by omega)]; exact h1, ⟨J, by rw [oq _ (by omega)]; exact h3, hj⟩, fun i hi => (h4 i hi).kept (oq _ (by omega)), fun i hi => by rw [oq _ (by omega)]; exact h5 i hi, G, by rw [oq _ (by omega)]; exact h2, fun k hk4 => ?_⟩ o1 o2
  rcases hG k hk4 with hn | ⟨a, g1, g2, g3, g4⟩
  · exact Or.inl hn
  · exact Or.inr ⟨a, g1, g2, g3, g4.kept (oq a (by omega))⟩
/-- a note is written where the notes end -/
theorem hr_cjst (X : hr_X p s m0 args c cc nL own s0 D g A) (hC : hr_cw D g b z fs M C h js H) (hS : va_S A s.heap H locs) (hr : ∀ q : Nat, b ≤ q → q < b + 20 → A q) {i x : Int32} (hi : i = nI js.length) (hj : js.length < 2800) (hdg : decode cc pc = .ok (.iastore, 1))
    (kk : ∀ (H1 : Heap) (locs1 : List Loc), hr_cw D g b z fs M C h (x :: js) H1 → va_S A s.heap H1 locs1 → hr_kp b 20 H H1 → W p l e R s m0 args below meth c H1 locs1 cells slots Q (F0 m0 (pc + 1) ls rest)) : W p l e R s m0 args below meth c H locs cells slots Q (F0 m0 pc ls (.int x :: .int i :: .ref (b + 3) :: rest)) := by
  obtain ⟨hz, h0, h1, ⟨J, h3, hjj⟩, h4, h5, G, h2, hG⟩ := hC
  refine hr_iast X h3 hi hj (by decide) hdg fun H1 hO zz oq => ?_
  obtain ⟨o1, o2⟩ := hr_one (i := js.length) hS hr (by omega) (by omega) zz oq
  refine kk H1 _ ⟨hz, h0.kept (oq _ (by omega)), by rw [oq _ (by omega)]; exact h1, ⟨_, hO, hjj.put x⟩, fun i hi => (h4 i hi).kept (oq _ (by omega)), fun i hi => by rw [oq _ (by omega)]; exact h5 i hi, G, by rw [oq _ (by omega)]; exact h2, fun k hk4 => ?_⟩ o1 o2
  rcases hG k hk4 with hn | ⟨a, g1, g2, g3, g4⟩
  · exact Or.inl hn
  · exact Or.inr ⟨a, g1, g2, g3, g4.kept (oq a (by omega))⟩
/-- a note is read -/
theorem hr_cjld (X : hr_X p s m0 args c cc nL own s0 D g A) (hC : hr_cw D g b z fs M C h js H) {i : Int32} {j : Nat} (hi : i = nI j) (hj : j < js.length) (hj2 : js.length ≤ 2800) (hdg : decode cc pc = .ok (.iaload, 1))
    (kk : W p l e R s m0 args below meth c H locs cells slots Q (F0 m0 (pc + 1) ls (.int (hp_at js j) :: rest))) : W p l e R s m0 args below meth c H locs cells slots Q (F0 m0 pc ls (.int i :: .ref (b + 3) :: rest)) := by
  obtain ⟨hz, h0, h1, ⟨J, h3, hjj⟩, h4, h5, G, h2, hG⟩ := hC
  rw [← hjj.at j hj] at kk
  exact hr_iald X h3 hi (by omega) (by decide) hdg kk
/-- a rack by its number -/
theorem hr_crk (X : hr_X p s m0 args c cc nL own s0 D g A) (hC : hr_cw D g b z fs M C h js H) {i : Int32} {j : Nat} (hi : i = nI j) (hj : j < 8) (hdg : decode cc pc = .ok (.aaload, 1))
    (kk : W p l e R s m0 args below meth c H locs cells slots Q (F0 m0 (pc + 1) ls (.ref (b + 4 + 2 * j) :: rest))) : W p l e R s m0 args below meth c H locs cells slots Q (F0 m0 pc ls (.int i :: .ref (b + 1) :: rest)) :=
  hr_aald X (t0 := 1) (E := RX1) rfl hC.2.2.1 hi hj (by decide) hdg kk
theorem hr_cmany (X : hr_X p s m0 args c cc nL own s0 D g A) (hC : hr_cw D g b z fs M C h js H) {j : Nat} (hj : j < 8) {index : Nat} {host : String} (hl : Cond.fieldLinkNest own index "HoistRacks$Rack" "many" "I" host ∈ lw_tbl) (hdg : decode cc pc = .ok (.getfield index, 3))
    (kk : W p l e R s m0 args below meth c H locs cells slots Q (F0 m0 (pc + 3) ls (.int (nI (M j)) :: rest))) : W p l e R s m0 args below meth c H locs cells slots Q (F0 m0 pc ls (.ref (b + 4 + 2 * j) :: rest)) :=
  hr_getN X hr_i1 (hC.2.2.2.2.1 j hj) 1 (by decide) rfl hl hdg kk
theorem hr_ccells (X : hr_X p s m0 args c cc nL own s0 D g A) (hC : hr_cw D g b z fs M C h js H) {j : Nat} (hj : j < 8) {index : Nat} {host : String} (hl : Cond.fieldLinkNest own index "HoistRacks$Rack" "cells" "[I" host ∈ lw_tbl) (hdg : decode cc pc = .ok (.getfield index, 3))
    (kk : W p l e R s m0 args below meth c H locs cells slots Q (F0 m0 (pc + 3) ls (.ref (b + 5 + 2 * j) :: rest))) : W p l e R s m0 args below meth c H locs cells slots Q (F0 m0 pc ls (.ref (b + 4 + 2 * j) :: rest)) :=
  hr_getN X hr_i1 (hC.2.2.2.2.1 j hj) 0 (by decide) rfl hl hdg kk
theorem hr_ccld (X : hr_X p s m0 args c cc nL own s0 D g A) (hC : hr_cw D g b z fs M C h js H) {j : Nat} (hj : j < 8) {i : Int32} {k : Nat} (hi : i = nI k) (hk : k < 12) (hdg : decode cc pc = .ok (.iaload, 1))
    (kk : W p l e R s m0 args below meth c H locs cells slots Q (F0 m0 (pc + 1) ls (.int (C j k) :: rest))) : W p l e R s m0 args below meth c H locs cells slots Q (F0 m0 pc ls (.int i :: .ref (b + 5 + 2 * j) :: rest)) :=
  hr_iald X (hC.2.2.2.2.2.1 j hj) hi hk (by decide) hdg kk
/-- how many cells a rack has, written -/
theorem hr_cmput (X : hr_X p s m0 args c cc nL own s0 D g A) (hC : hr_cw D g b z fs M C h js H) (hS : va_S A s.heap H locs) (hr : ∀ q : Nat, b ≤ q → q < b + 20 → A q) {j : Nat} (hj : j < 8) {x : Int32} (w : Nat) (hx : x = nI w) {index : Nat} {host : String} (hl : Cond.fieldLinkNest own index "HoistRacks$Rack" "many" "I" host ∈ lw_tbl) (hdg : decode cc pc = .ok (.putfield index, 3))
    (kk : ∀ (H1 : Heap) (locs1 : List Loc), hr_cw D g b z fs (va_up M j w) C h js H1 → va_S A s.heap H1 locs1 → hr_kp b 20 H H1 → W p l e R s m0 args below meth c H1 locs1 cells slots Q (F0 m0 (pc + 3) ls rest)) : W p l e R s m0 args below meth c H locs cells slots Q (F0 m0 pc ls (.int x :: .ref (b + 4 + 2 * j) :: rest)) := by
  obtain ⟨hz, h0, h1, ⟨J, h3, hjj⟩, h4, h5, G, h2, hG⟩ := hC
  refine hr_putN X hr_i1 (h4 j hj) 1 (by decide) (Nat.le_of_ble_eq_true rfl) rfl (v := .int x) rfl rfl hl hdg fun H1 hO zz oq => ?_
  obtain ⟨o1, o2⟩ := hr_one (i := D.2 1 1) hS hr (by omega) (by omega) zz oq
  refine kk H1 _ ⟨hz, h0.kept (oq _ (by omega)), by rw [oq _ (by omega)]; exact h1, ⟨J, by rw [oq _ (by omega)]; exact h3, hjj⟩, fun i hi => ?_, fun i hi => by rw [oq _ (by omega)]; exact h5 i hi, G, by rw [oq _ (by omega)]; exact h2, fun k hk4 => ?_⟩ o1 o2
  · by_cases e : i = j
    · subst e
      subst hx
      have e2 : va_up M i w i = w := by simp [va_up]
      rw [e2]
      exact hO
    · have e2 : va_up M j w i = M i := by simp [va_up, e]
      rw [e2]
      exact (h4 i hi).kept (oq _ (by omega))
  · rcases hG k hk4 with hn | ⟨a, g1, g2, g3, g4⟩
    · exact Or.inl hn
    · exact Or.inr ⟨a, g1, g2, g3, g4.kept (oq a (by omega))⟩
/-- a cell of a rack, written -/
theorem hr_ccst (X : hr_X p s m0 args c cc nL own s0 D g A) (hC : hr_cw D g b z fs M C h js H) (hS : va_S A s.heap H locs) (hr : ∀ q : Nat, b ≤ q → q < b + 20 → A q) {j : Nat} (hj : j < 8) {i x : Int32} {k : Nat} (hi : i = nI k) (hk : k < 12) (hdg : decode cc pc = .ok (.iastore, 1))
    (kk : ∀ (H1 : Heap) (locs1 : List Loc), hr_cw D g b z fs M (va_up C j (upd (C j) k x)) h js H1 → va_S A s.heap H1 locs1 → hr_kp b 20 H H1 → W p l e R s m0 args below meth c H1 locs1 cells slots Q (F0 m0 (pc + 1) ls rest)) : W p l e R s m0 args below meth c H locs cells slots Q (F0 m0 pc ls (.int x :: .int i :: .ref (b + 5 + 2 * j) :: rest)) := by
  obtain ⟨hz, h0, h1, ⟨J, h3, hjj⟩, h4, h5, G, h2, hG⟩ := hC
  refine hr_iast X (h5 j hj) hi hk (by decide) hdg fun H1 hO zz oq => ?_
  obtain ⟨o1, o2⟩ := hr_one (i := k) hS hr (by omega) (by omega) zz oq
  refine kk H1 _ ⟨hz, h0.kept (oq _ (by omega)), by rw [oq _ (by omega)]; exact h1, ⟨J, by rw [oq _ (by omega)]; exact h3, hjj⟩, fun i hi => (h4 i hi).kept (oq _ (by omega)), fun i hi => ?_, G, by rw [oq _ (by omega)]; exact h2, fun k hk4 => ?_⟩ o1 o2
  · by_cases e : i = j
    · subst e
      have e2 : va_up C i (upd (C i) k x) i = upd (C i) k x := by simp [va_up]
      rw [e2]
      exact hO
    · have e2 : va_up C j (upd (C j) k x) i = C i := by simp [va_up, e]
      rw [e2, oq _ (by omega)]
      exact h5 i hi
  · rcases hG k hk4 with hn | ⟨a, g1, g2, g3, g4⟩
    · exact Or.inl hn
    · exact Or.inr ⟨a, g1, g2, g3, g4.kept (oq a (by omega))⟩
/-- a place of the crew: nobody, or somebody with hands -/
theorem hr_ccrew (X : hr_X p s m0 args c cc nL own s0 D g A) (hC : hr_cw D g b z fs M C h js H) {i : Int32} {k : Nat} (hi : i = nI k) (hk : k < 4) (hdg : decode cc pc = .ok (.aaload, 1))
    (k1 : h k = 0 → W p l e R s m0 args below meth c H locs cells slots Q (F0 m0 (pc + 1) ls (.null :: rest)))
    (k2 : ∀ a : Nat, h k ≠ 0 → t_OB a (D.1 2) 1 (D.2 2) H (vp_V [.int (h k)]) → W p l e R s m0 args below meth c H locs cells slots Q (F0 m0 (pc + 1) ls (.ref a :: rest))) : W p l e R s m0 args below meth c H locs cells slots Q (F0 m0 pc ls (.int i :: .ref (b + 2) :: rest)) := by
  obtain ⟨hz, h0, h1, ⟨J, h3, hjj⟩, h4, h5, G, h2, hG⟩ := hC
  refine hr_aald X (t0 := 2) (E := RX3) rfl h2 hi hk (by decide) hdg ?_
  rcases hG k hk with ⟨hn, hh⟩ | ⟨a, g1, g2, g3, g4⟩
  · rw [hn]
    exact k1 hh
  · rw [g1]
    exact k2 a g2 g4
theorem hr_hands (X : hr_X p s m0 args c cc nL own s0 D g A) {a : Nat} {x : Int32} (hO : t_OB a (D.1 2) 1 (D.2 2) H (vp_V [.int x])) {index : Nat} {host : String} (hl : Cond.fieldLinkNest own index "HoistRacks$Hand" "hands" "I" host ∈ lw_tbl) (hdg : decode cc pc = .ok (.getfield index, 3))
    (kk : W p l e R s m0 args below meth c H locs cells slots Q (F0 m0 (pc + 3) ls (.int x :: rest))) : W p l e R s m0 args below meth c H locs cells slots Q (F0 m0 pc ls (.ref a :: rest)) :=
  hr_getN X hr_i2 hO 0 (by decide) rfl hl hdg kk
theorem hr_ccrN (X : hr_X p s m0 args c cc nL own s0 D g A) (hC : hr_cw D g b z fs M C h js H) (hS : va_S A s.heap H locs) (hr : ∀ q : Nat, b ≤ q → q < b + 20 → A q) {i : Int32} {k : Nat} (hi : i = nI k) (hk : k < 4) (hdg : decode cc pc = .ok (.aastore, 1))
    (kk : ∀ (H1 : Heap) (locs1 : List Loc), hr_cw D g b z fs M C (upd h k 0) js H1 → va_S A s.heap H1 locs1 → hr_kp b 20 H H1 → W p l e R s m0 args below meth c H1 locs1 cells slots Q (F0 m0 (pc + 1) ls rest)) : W p l e R s m0 args below meth c H locs cells slots Q (F0 m0 pc ls (.null :: .int i :: .ref (b + 2) :: rest)) := by
  obtain ⟨hz, h0, h1, ⟨J, h3, hjj⟩, h4, h5, G, h2, hG⟩ := hC
  refine hr_aastN X (t0 := 2) (E := RX3) rfl h2 hi hk (by decide) hdg fun H1 hO zz oq => ?_
  obtain ⟨o1, o2⟩ := hr_one (i := k) hS hr (by omega) (by omega) zz oq
  refine kk H1 _ ⟨hz, h0.kept (oq _ (by omega)), by rw [oq _ (by omega)]; exact h1, ⟨J, by rw [oq _ (by omega)]; exact h3, hjj⟩, fun i hi => (h4 i hi).kept (oq _ (by omega)), fun i hi => by rw [oq _ (by omega)]; exact h5 i hi, va_up G k none, ?_, fun k' hk4 => ?_⟩ o1 o2
  · rw [hO]
    congr 2
    funext q
    by_cases hq : q = k
    · subst hq; simp [updV, va_up, va_rf]
    · simp [updV, va_up, hq]
  · by_cases e : k' = k
    · subst e
      exact Or.inl ⟨by simp [va_up], by simp [upd]⟩
    · have e1 : va_up G k none k' = G k' := by simp [va_up, e]
      have e2 : upd h k 0 k' = h k' := by simp [upd, e]
      rw [e1, e2]
      rcases hG k' hk4 with hn | ⟨a, g1, g2, g3, g4⟩
      · exact Or.inl hn
      · exact Or.inr ⟨a, g1, g2, g3, g4.kept (oq a (by omega))⟩
theorem hr_ccrR (X : hr_X p s m0 args c cc nL own s0 D g A) (hC : hr_cw D g b z fs M C h js H) (hS : va_S A s.heap H locs) (hr : ∀ q : Nat, b ≤ q → q < b + 20 → A q) {a : Nat} {x : Int32} (hO : t_OB a (D.1 2) 1 (D.2 2) H (vp_V [.int x])) (hx : x ≠ 0) (haz : z ≤ a) {i : Int32} {k : Nat} (hi : i = nI k) (hk : k < 4) (hdg : decode cc pc = .ok (.aastore, 1))
    (kk : ∀ (H1 : Heap) (locs1 : List Loc), hr_cw D g b z fs M C (upd h k x) js H1 → va_S A s.heap H1 locs1 → hr_kp b 20 H H1 → W p l e R s m0 args below meth c H1 locs1 cells slots Q (F0 m0 (pc + 1) ls rest)) : W p l e R s m0 args below meth c H locs cells slots Q (F0 m0 pc ls (.ref a :: .int i :: .ref (b + 2) :: rest)) := by
  obtain ⟨hz, h0, h1, ⟨J, h3, hjj⟩, h4, h5, G, h2, hG⟩ := hC
  refine hr_aast X hr_i2 (t0 := 2) rfl h2 hO hi hk (by decide) hdg fun H1 hO2 zz oq => ?_
  obtain ⟨o1, o2⟩ := hr_one (i := k) hS hr (by omega) (by omega) zz oq
  refine kk H1 _ ⟨hz, h0.kept (oq _ (by omega)), by rw [oq _ (by omega)]; exact h1, ⟨J, by rw [oq _ (by omega)]; exact h3, hjj⟩, fun i hi => (h4 i hi).kept (oq _ (by omega)), fun i hi => by rw [oq _ (by omega)]; exact h5 i hi, va_up G k (some a), ?_, fun k' hk4 => ?_⟩ o1 o2
  · rw [hO2]
    congr 2
    funext q
    by_cases hq : q = k
    · subst hq; simp [updV, va_up, va_rf]
    · simp [updV, va_up, hq]
  · by_cases e : k' = k
    · subst e
      have e2 : upd h k' x k' = x := by simp [upd]
      rw [e2]
      exact Or.inr ⟨a, by simp [va_up], hx, haz, hO.kept (oq a (by omega))⟩
    · have e1 : va_up G k (some a) k' = G k' := by simp [va_up, e]
      have e2 : upd h k x k' = h k' := by simp [upd, e]
      rw [e1, e2]
      rcases hG k' hk4 with hn | ⟨a', g1, g2, g3, g4⟩
      · exact Or.inl hn
      · exact Or.inr ⟨a', g1, g2, g3, g4.kept (oq a' (by omega))⟩
/-! the reference's rows -/
variable {m : Nat}
theorem hr_tget (X : hr_X p s m0 args c cc nL own s0 D g A) (hT : hr_tw D g m fs M C h js rk at' H) (k : Nat) (hk : k < 17) {v : Value} (hv : fs[k]? = some v) {index : Nat} (hl : Cond.fieldLink own index (TX2 k).1 (TX2 k).2.1 (TX2 k).2.2.1 ∈ lw_all) (hdg : decode cc pc = .ok (.getfield index, 3))
    (kk : W p l e R s m0 args below meth c H locs cells slots Q (F0 m0 (pc + 3) ls (v :: rest))) : W p l e R s m0 args below meth c H locs cells slots Q (F0 m0 pc ls (.ref m :: rest)) := hr_get X hr_i3 hT.1 k hk hv hl hdg kk
theorem hr_tput (X : hr_X p s m0 args c cc nL own s0 D g A) (hT : hr_tw D g m fs M C h js rk at' H) (hS : va_S A s.heap H locs) (hr : ∀ q : Nat, m ≤ q → q < m + 7 → A q) (k : Nat) (hk : k < 17) (hkl : k < fs.length) (hfin : (TX2 k).2.2.2 = false) (hty : tyX2 k = .int) {x : Int32} {index : Nat} (hl : Cond.fieldLink own index (TX2 k).1 (TX2 k).2.1 (TX2 k).2.2.1 ∈ lw_all) (hdg : decode cc pc = .ok (.putfield index, 3))
    (kk : ∀ (H1 : Heap) (locs1 : List Loc), hr_tw D g m (fs.set k (.int x)) M C h js rk at' H1 → va_S A s.heap H1 locs1 → hr_kp m 7 H H1 → W p l e R s m0 args below meth c H1 locs1 cells slots Q (F0 m0 (pc + 3) ls rest)) : W p l e R s m0 args below meth c H locs cells slots Q (F0 m0 pc ls (.int x :: .ref m :: rest)) := by
  refine hr_put X hr_i3 hT.1 k hk hkl hfin (v := .int x) (by rw [hty]; rfl) (by rw [hty]; rfl) hl hdg fun H1 hO zz oq => ?_
  obtain ⟨o1, o2⟩ := hr_one (i := D.2 3 k) hS hr (Nat.le_refl m) (by omega) zz oq
  obtain ⟨h0, h1, h2, h3, ⟨N, h4, hj⟩, h5, h6⟩ := hT
  exact kk H1 _ ⟨hO, by rw [oq _ (by omega)]; exact h1, by rw [oq _ (by omega)]; exact h2, by rw [oq _ (by omega)]; exact h3, ⟨N, by rw [oq _ (by omega)]; exact h4, hj⟩, by rw [oq _ (by omega)]; exact h5, by rw [oq _ (by omega)]; exact h6⟩ o1 o2
theorem hr_tmst (X : hr_X p s m0 args c cc nL own s0 D g A) (hT : hr_tw D g m fs M C h js rk at' H) (hS : va_S A s.heap H locs) (hr : ∀ q : Nat, m ≤ q → q < m + 7 → A q) {i x : Int32} {j : Nat} (w : Nat) (hx : x = nI w) (hi : i = nI j) (hj : j < 8) (hdg : decode cc pc = .ok (.iastore, 1))
    (kk : ∀ (H1 : Heap) (locs1 : List Loc), hr_tw D g m fs (va_up M j w) C h js rk at' H1 → va_S A s.heap H1 locs1 → hr_kp m 7 H H1 → W p l e R s m0 args below meth c H1 locs1 cells slots Q (F0 m0 (pc + 1) ls rest)) : W p l e R s m0 args below meth c H locs cells slots Q (F0 m0 pc ls (.int x :: .int i :: .ref (m + 1) :: rest)) := by
  obtain ⟨h0, h1, h2, h3, ⟨N, h4, hjj⟩, h5, h6⟩ := hT
  refine hr_iast X h1 hi hj (by decide) hdg fun H1 hO zz oq => ?_
  obtain ⟨o1, o2⟩ := hr_one (i := j) hS hr (by omega) (by omega) zz oq
  refine kk H1 _ ⟨h0.kept (oq _ (by omega)), ?_, by rw [oq _ (by omega)]; exact h2, by rw [oq _ (by omega)]; exact h3, ⟨N, by rw [oq _ (by omega)]; exact h4, hjj⟩, by rw [oq _ (by omega)]; exact h5, by rw [oq _ (by omega)]; exact h6⟩ o1 o2
  rw [hO]
  congr 2
  funext q
  by_cases hq : q = j
  · subst hq; simp [upd, va_up, hx]
  · simp [upd, va_up, hq]
theorem hr_tcst (X : hr_X p s m0 args c cc nL own s0 D g A) (hT : hr_tw D g m fs M C h js rk at' H) (hS : va_S A s.heap H locs) (hr : ∀ q : Nat, m ≤ q → q < m + 7 → A q) {i x : Int32} {j k : Nat} (hi : i = nI (12 * j + k)) (hj : j < 8) (hk : k < 12) (hdg : decode cc pc = .ok (.iastore, 1))
    (kk : ∀ (H1 : Heap) (locs1 : List Loc), hr_tw D g m fs M (va_up C j (upd (C j) k x)) h js rk at' H1 → va_S A s.heap H1 locs1 → hr_kp m 7 H H1 → W p l e R s m0 args below meth c H1 locs1 cells slots Q (F0 m0 (pc + 1) ls rest)) : W p l e R s m0 args below meth c H locs cells slots Q (F0 m0 pc ls (.int x :: .int i :: .ref (m + 2) :: rest)) := by
  obtain ⟨h0, h1, h2, h3, ⟨N, h4, hjj⟩, h5, h6⟩ := hT
  refine hr_iast X h2 hi (by omega) (by decide) hdg fun H1 hO zz oq => ?_
  obtain ⟨o1, o2⟩ := hr_one (i := 12 * j + k) hS hr (by omega) (by omega) zz oq
  refine kk H1 _ ⟨h0.kept (oq _ (by omega)), by rw [oq _ (by omega)]; exact h1, ?_, by rw [oq _ (by omega)]; exact h3, ⟨N, by rw [oq _ (by omega)]; exact h4, hjj⟩, by rw [oq _ (by omega)]; exact h5, by rw [oq _ (by omega)]; exact h6⟩ o1 o2
  rw [hO]
  congr 2
  funext q
  by_cases hq : q = 12 * j + k
  · subst hq
    have e1 : (12 * j + k) / 12 = j := by omega
    have e2 : (12 * j + k) % 12 = k := by omega
    simp [upd, va_up, e1, e2]
  · by_cases e1 : q / 12 = j
    · have e2 : ¬ q % 12 = k := by omega
      have e3 : ¬ q = 12 * j + k := hq
      simp [upd, va_up, e1, e2, e3]
    · simp [upd, va_up, hq, e1]
theorem hr_thst (X : hr_X p s m0 args c cc nL own s0 D g A) (hT : hr_tw D g m fs M C h js rk at' H) (hS : va_S A s.heap H locs) (hr : ∀ q : Nat, m ≤ q → q < m + 7 → A q) {i x : Int32} {j : Nat} (hi : i = nI j) (hj : j < 4) (hdg : decode cc pc = .ok (.iastore, 1))
    (kk : ∀ (H1 : Heap) (locs1 : List Loc), hr_tw D g m fs M C (upd h j x) js rk at' H1 → va_S A s.heap H1 locs1 → hr_kp m 7 H H1 → W p l e R s m0 args below meth c H1 locs1 cells slots Q (F0 m0 (pc + 1) ls rest)) : W p l e R s m0 args below meth c H locs cells slots Q (F0 m0 pc ls (.int x :: .int i :: .ref (m + 3) :: rest)) := by
  obtain ⟨h0, h1, h2, h3, ⟨N, h4, hjj⟩, h5, h6⟩ := hT
  refine hr_iast X h3 hi hj (by decide) hdg fun H1 hO zz oq => ?_
  obtain ⟨o1, o2⟩ := hr_one (i := j) hS hr (by omega) (by omega) zz oq
  exact kk H1 _ ⟨h0.kept (oq _ (by omega)), by rw [oq _ (by omega)]; exact h1, by rw [oq _ (by omega)]; exact h2, hO, ⟨N, by rw [oq _ (by omega)]; exact h4, hjj⟩, by rw [oq _ (by omega)]; exact h5, by rw [oq _ (by omega)]; exact h6⟩ o1 o2
theorem hr_tjst (X : hr_X p s m0 args c cc nL own s0 D g A) (hT : hr_tw D g m fs M C h js rk at' H) (hS : va_S A s.heap H locs) (hr : ∀ q : Nat, m ≤ q → q < m + 7 → A q) {i x : Int32} (hi : i = nI js.length) (hj : js.length < 6000) (hdg : decode cc pc = .ok (.iastore, 1))
    (kk : ∀ (H1 : Heap) (locs1 : List Loc), hr_tw D g m fs M C h (x :: js) rk at' H1 → va_S A s.heap H1 locs1 → hr_kp m 7 H H1 → W p l e R s m0 args below meth c H1 locs1 cells slots Q (F0 m0 (pc + 1) ls rest)) : W p l e R s m0 args below meth c H locs cells slots Q (F0 m0 pc ls (.int x :: .int i :: .ref (m + 4) :: rest)) := by
  obtain ⟨h0, h1, h2, h3, ⟨N, h4, hjj⟩, h5, h6⟩ := hT
  refine hr_iast X h4 hi hj (by decide) hdg fun H1 hO zz oq => ?_
  obtain ⟨o1, o2⟩ := hr_one (i := js.length) hS hr (by omega) (by omega) zz oq
  exact kk H1 _ ⟨h0.kept (oq _ (by omega)), by rw [oq _ (by omega)]; exact h1, by rw [oq _ (by omega)]; exact h2, by rw [oq _ (by omega)]; exact h3, ⟨_, hO, hjj.put x⟩, by rw [oq _ (by omega)]; exact h5, by rw [oq _ (by omega)]; exact h6⟩ o1 o2
theorem hr_tjld (X : hr_X p s m0 args c cc nL own s0 D g A) (hT : hr_tw D g m fs M C h js rk at' H) {i : Int32} {j : Nat} (hi : i = nI j) (hj : j < js.length) (hj2 : js.length ≤ 6000) (hdg : decode cc pc = .ok (.iaload, 1))
    (kk : W p l e R s m0 args below meth c H locs cells slots Q (F0 m0 (pc + 1) ls (.int (hp_at js j) :: rest))) : W p l e R s m0 args below meth c H locs cells slots Q (F0 m0 pc ls (.int i :: .ref (m + 4) :: rest)) := by
  obtain ⟨h0, h1, h2, h3, ⟨N, h4, hjj⟩, h5, h6⟩ := hT
  rw [← hjj.at j hj] at kk
  exact hr_iald X h4 hi (by omega) (by decide) hdg kk
theorem hr_trst (X : hr_X p s m0 args c cc nL own s0 D g A) (hT : hr_tw D g m fs M C h js rk at' H) (hS : va_S A s.heap H locs) (hr : ∀ q : Nat, m ≤ q → q < m + 7 → A q) {i x : Int32} {j : Nat} (hi : i = nI j) (hj : j < 6) (hdg : decode cc pc = .ok (.iastore, 1))
    (kk : ∀ (H1 : Heap) (locs1 : List Loc), hr_tw D g m fs M C h js (upd rk j x) at' H1 → va_S A s.heap H1 locs1 → hr_kp m 7 H H1 → W p l e R s m0 args below meth c H1 locs1 cells slots Q (F0 m0 (pc + 1) ls rest)) : W p l e R s m0 args below meth c H locs cells slots Q (F0 m0 pc ls (.int x :: .int i :: .ref (m + 5) :: rest)) := by
  obtain ⟨h0, h1, h2, h3, ⟨N, h4, hjj⟩, h5, h6⟩ := hT
  refine hr_iast X h5 hi hj (by decide) hdg fun H1 hO zz oq => ?_
  obtain ⟨o1, o2⟩ := hr_one (i := j) hS hr (by omega) (by omega) zz oq
  exact kk H1 _ ⟨h0.kept (oq _ (by omega)), by rw [oq _ (by omega)]; exact h1, by rw [oq _ (by omega)]; exact h2, by rw [oq _ (by omega)]; exact h3, ⟨N, by rw [oq _ (by omega)]; exact h4, hjj⟩, hO, by rw [oq _ (by omega)]; exact h6⟩ o1 o2
theorem hr_tast (X : hr_X p s m0 args c cc nL own s0 D g A) (hT : hr_tw D g m fs M C h js rk at' H) (hS : va_S A s.heap H locs) (hr : ∀ q : Nat, m ≤ q → q < m + 7 → A q) {i x : Int32} {j : Nat} (hi : i = nI j) (hj : j < 6) (hdg : decode cc pc = .ok (.iastore, 1))
    (kk : ∀ (H1 : Heap) (locs1 : List Loc), hr_tw D g m fs M C h js rk (upd at' j x) H1 → va_S A s.heap H1 locs1 → hr_kp m 7 H H1 → W p l e R s m0 args below meth c H1 locs1 cells slots Q (F0 m0 (pc + 1) ls rest)) : W p l e R s m0 args below meth c H locs cells slots Q (F0 m0 pc ls (.int x :: .int i :: .ref (m + 6) :: rest)) := by
  obtain ⟨h0, h1, h2, h3, ⟨N, h4, hjj⟩, h5, h6⟩ := hT
  refine hr_iast X h6 hi hj (by decide) hdg fun H1 hO zz oq => ?_
  obtain ⟨o1, o2⟩ := hr_one (i := j) hS hr (by omega) (by omega) zz oq
  exact kk H1 _ ⟨h0.kept (oq _ (by omega)), by rw [oq _ (by omega)]; exact h1, by rw [oq _ (by omega)]; exact h2, by rw [oq _ (by omega)]; exact h3, ⟨N, by rw [oq _ (by omega)]; exact h4, hjj⟩, by rw [oq _ (by omega)]; exact h5, hO⟩ o1 o2
end HRP
end
section
/-! METHODS: entry, ends, calls with their answers -/
section HRE
/-- contracts by what the method answers -/
abbrev hr_Qv (P : Heap → Prop) : Outcome → Heap → Prop := fun o H => o = .returned none ∧ P H
abbrev hr_Qi (P : Int32 → Heap → Prop) : Outcome → Heap → Prop := fun o H => ∃ r : Int32, o = .returned (some (.int r)) ∧ P r H
abbrev hr_Qc (lo n : Nat) (Qb : Outcome → Heap → Prop) : Array Value → State → Outcome → State → Prop := fun _ st o t => Qb o t.heap ∧ hr_kp lo n st.heap t.heap
variable {p : Program} {l : Launch} {e : Env} {R : Room} {s : State} {m : MethodId} {args : Array Value} {below : List Frame} {meth : Method} {c : Code} {H : Heap} {locs : List Loc} {cells slots : Nat} {Q : State → Prop}
variable {cc : ByteArray} {nL : Nat} {own : String} {s0 : State} {D : va_G} {g : ClassId × ClassId × ClassId} {A : Nat → Prop} {pc : Nat} {ls : Array Slot} {rest : List Value}
theorem hr_reg {lo n sz : Nat} : ∀ q : Nat, lo ≤ q → q < lo + n → hr_A lo n sz q := fun _ h1 h2 => Or.inl ⟨h1, h2⟩
theorem hr_S0 {lo n : Nat} : va_S (hr_A lo n s.heap.size) s.heap s.heap [] := va_S.rf
theorem hr_kpS {lo n : Nat} (hS : va_S (hr_A lo n s.heap.size) s.heap H locs) : hr_kp lo n s.heap H := ⟨hS.1, fun q h1 h2 => hS.2.1 q h1 (fun h => by rcases h with h | h; exact h2 h; omega)⟩
theorem hr_mkX {y : MethodName} {w : Cond} {rm : Room} {maxL lo n : Nat} {ret : Option FieldType} {s₁ : State} (B : BodyLoose p l y (headSpec (w :: lw_all) rm) cc maxL ret e s m args below meth c s₁) (hml : c.maxLocals = maxL) (Z : hr_Z s0 D g) (hB : hr_B s0 s.vm s.heap) (h0 : s0.heap.size ≤ lo) : hr_X p s m args c cc maxL y.cls s0 D g (hr_A lo n s.heap.size) := by
  have hz : s0.heap.size ≤ s.heap.size := by
    rcases Nat.lt_or_ge s.heap.size s0.heap.size with h | h
    · have h1 := hB.2 s.heap.size h
      have h2 : s0.heap[s.heap.size]? = none := by rw [← h1]; simp
      have h3 := Array.getElem?_eq_none_iff.mp h2
      omega
    · exact h
  exact ⟨⟨B.exec, B.bytes, hml, findClass_of_methodNamed B.named, fun w' h => atoms_spec (ws := w :: lw_all) B.pre w' (List.mem_cons_of_mem _ h)⟩, Z, hB, fun q h => by rcases h with h | h <;> omega, fun q h => Or.inr h⟩
/-- a method without handlers -/
theorem hr_meth {y : MethodName} {rm : Room} {maxL lo n sz mc ms : Nat} {ret : Option FieldType} {av : List Value} {Bp : Heap → Prop} {Qb : Outcome → Heap → Prop} (hy : plainName y.cls = true) (hav : (lg_sl av).length ≤ maxL) (Z : hr_Z s0 D g) (h0 : s0.heap.size ≤ lo)
    (body : ∀ (p : Program) (e : Env) (s : State) (m : MethodId) (below : List Frame) (meth : Method) (c : Code) (ls : Array Slot), hr_X p s m av.toArray c cc maxL y.cls s0 D g (hr_A lo n s.heap.size) → meth.sig.returnType = ret → meth.locks = false → meth.name = y.name → c.exceptionTable.toList = [] → l.admits e → sz = s.heap.size → Bp s.heap → lv_has ls maxL (lv_args 0 av) →
      W p l e rm s m av.toArray below meth c s.heap [] 0 0 (hr_Q below (hr_Qc lo n Qb) av.toArray s mc ms (hr_A lo n s.heap.size)) (F0 m 0 ls [])) : hr_C l y (ws_ y cc maxL ret) rm s0 lo n sz av Bp Qb mc ms := by
  refine hr_ofW (cc := cc) (maxL := maxL) (ret := ret) hy rfl ?_
  intro p e s m args below meth c s₁ B hml htab hv
  obtain ⟨rfl, hsz, hB, hC⟩ := hv
  subst hsz
  have hl := lv_entry av (n := maxL) hav
  rw [lg_entry_eq]
  generalize (lg_sl av ++ List.replicate (maxL - (lg_sl av).length) Slot.unset).toArray = ls at hl ⊢
  exact body p e s m below meth c ls (hr_mkX B hml Z hB h0) B.returns B.notSynchronized (name_of_methodNamed B.named B.method).1 htab B.admits rfl hC hl
/-- a method with handlers -/
theorem hr_methH {y : MethodName} {rm : Room} {maxL lo n sz mc ms : Nat} {ret : Option FieldType} {hh : List (Nat × Nat × Nat × Nat)} {av : List Value} {Bp : Heap → Prop} {Qb : Outcome → Heap → Prop} (hy : plainName y.cls = true) (hav : (lg_sl av).length ≤ maxL) (Z : hr_Z s0 D g) (h0 : s0.heap.size ≤ lo)
    (body : ∀ (p : Program) (e : Env) (s : State) (m : MethodId) (below : List Frame) (meth : Method) (c : Code) (ls : Array Slot), hr_X p s m av.toArray c cc maxL y.cls s0 D g (hr_A lo n s.heap.size) → meth.sig.returnType = ret → meth.locks = false → c.exceptionTable.toList.map hr_row = hh → l.admits e → sz = s.heap.size → Bp s.heap → lv_has ls maxL (lv_args 0 av) →
      W p l e rm s m av.toArray below meth c s.heap [] 0 0 (hr_Q below (hr_Qc lo n Qb) av.toArray s mc ms (hr_A lo n s.heap.size)) (F0 m 0 ls [])) : hr_C l y (wsW_ y cc maxL ret hh) rm s0 lo n sz av Bp Qb mc ms := by
  refine hr_ofWH (cc := cc) (maxL := maxL) (ret := ret) (hh := hh) hy rfl ?_
  intro p e s m args below meth c s₁ B hml htab hv
  obtain ⟨rfl, hsz, hB, hC⟩ := hv
  subst hsz
  have hl := lv_entry av (n := maxL) hav
  rw [lg_entry_eq]
  generalize (lg_sl av ++ List.replicate (maxL - (lg_sl av).length) Slot.unset).toArray = ls at hl ⊢
  exact body p e s m below meth c ls (hr_mkX B hml Z hB h0) B.returns B.notSynchronized htab B.admits rfl hC hl
variable {lo n mc ms : Nat} {Qb : Outcome → Heap → Prop}
theorem hr_vret (X : hr_X p s m args c cc nL own s0 D g (hr_A lo n s.heap.size)) (hr : meth.sig.returnType = none) (hlocks : meth.locks = false) (hS : va_S (hr_A lo n s.heap.size) s.heap H locs) (hQ : Qb (.returned none) H) (hc : cells ≤ mc) (hs : slots ≤ ms) (hdg : decode cc pc = .ok (.return_, 1)) :
    W p l e R s m args below meth c H locs cells slots (hr_Q below (hr_Qc lo n Qb) args s mc ms (hr_A lo n s.heap.size)) (F0 m pc ls []) :=
  W.widen hc hs (hr_mono (fun _ h => hr_Q.of h) (W.vret X.ex X.by hr (fun t ht _ => ⟨by rw [ht]; exact hQ, by rw [ht]; exact hr_kpS hS⟩) hS.2.2 hdg hlocks))
theorem hr_iret (X : hr_X p s m args c cc nL own s0 D g (hr_A lo n s.heap.size)) (hr : meth.sig.returnType = some .int) (hlocks : meth.locks = false) (hS : va_S (hr_A lo n s.heap.size) s.heap H locs) {v : Int32} (hQ : Qb (.returned (some (.int v))) H) (hc : cells ≤ mc) (hs : slots ≤ ms) (hdg : decode cc pc = .ok (.ireturn, 1)) :
    W p l e R s m args below meth c H locs cells slots (hr_Q below (hr_Qc lo n Qb) args s mc ms (hr_A lo n s.heap.size)) (F0 m pc ls [.int v]) :=
  W.widen hc hs (hr_mono (fun _ h => hr_Q.of h) (W.iret X.ex X.by hr (fun t ht _ => ⟨by rw [ht]; exact hQ, by rw [ht]; exact hr_kpS hS⟩) hS.2.2 hdg hlocks))
theorem hr_zret (X : hr_X p s m args c cc nL own s0 D g (hr_A lo n s.heap.size)) (hr : meth.sig.returnType = some .boolean) (hlocks : meth.locks = false) (hS : va_S (hr_A lo n s.heap.size) s.heap H locs) {v : Int32} (hn : narrow .boolean (.int v) = .int v) (hQ : Qb (.returned (some (.int v))) H) (hc : cells ≤ mc) (hs : slots ≤ ms) (hdg : decode cc pc = .ok (.ireturn, 1)) :
    W p l e R s m args below meth c H locs cells slots (hr_Q below (hr_Qc lo n Qb) args s mc ms (hr_A lo n s.heap.size)) (F0 m pc ls [.int v]) :=
  W.widen hc hs (hr_mono (fun _ h => hr_Q.of h) (W.zret X.ex X.by hr hn (fun t ht _ => ⟨by rw [ht]; exact hQ, by rw [ht]; exact hr_kpS hS⟩) hS.2.2 hdg hlocks))
variable {y : MethodName} {ws : List Cond} {rm : Room} {B : Heap → Prop} {maxL ar index : Nat} {b : Nat} {As : List Value}
theorem hr_callVv {P : Heap → Prop} (X : hr_X p s m args c cc nL own s0 D g A) (hC : hr_C l y ws rm s0 lo n H.size (.ref b :: As) B (hr_Qv P) mc ms) (V : hr_V own index y maxL ar) (hG : GoodIn lw_all ws) (hS : va_S A s.heap H locs) (hr : ∀ q : Nat, lo ≤ q → q < lo + n → A q)
    (hrecv : ∃ cell : Cell, H[b]? = some cell ∧ cell.vm.isStatics = false ∧ s.vm.findClass y.cls = some cell.cls) (hB : B H) (hrc : rm.cells = mc) (hrs : rm.slots = ms) (hR : rm.frames + 1 ≤ R.frames ∧ 8 + (maxL + 11) + rm.locals ≤ R.locals) (hsize : ls.size = nL) (hn : As.length = ar) (hW : (rest.map fun v => v.category).sum ≤ 8)
    (hf : cells + mc ≤ R.cells ∧ slots + ms ≤ R.slots) (hdg : decode cc pc = .ok (.invokevirtual index, 3))
    (kk : ∀ (H1 : Heap) (locs1 : List Loc), P H1 → va_S A s.heap H1 locs1 → hr_kp lo n H H1 → W p l e R s m args below meth c H1 locs1 (cells + mc) (slots + ms) Q (F0 m (pc + 3) ls rest)) :
    W p l e R s m args below meth c H locs cells slots Q (F0 m pc ls (As.reverse ++ .ref b :: rest)) := by
  refine hr_callV X hC V hG hS hr hrecv hB hrc hrs hR hsize hn hW hf hdg ?_
  rintro o H1 locs1 ⟨rfl, h⟩ hS hk
  exact kk H1 locs1 h hS hk
theorem hr_callVi {P : Int32 → Heap → Prop} (X : hr_X p s m args c cc nL own s0 D g A) (hC : hr_C l y ws rm s0 lo n H.size (.ref b :: As) B (hr_Qi P) mc ms) (V : hr_V own index y maxL ar) (hG : GoodIn lw_all ws) (hS : va_S A s.heap H locs) (hr : ∀ q : Nat, lo ≤ q → q < lo + n → A q)
    (hrecv : ∃ cell : Cell, H[b]? = some cell ∧ cell.vm.isStatics = false ∧ s.vm.findClass y.cls = some cell.cls) (hB : B H) (hrc : rm.cells = mc) (hrs : rm.slots = ms) (hR : rm.frames + 1 ≤ R.frames ∧ 8 + (maxL + 11) + rm.locals ≤ R.locals) (hsize : ls.size = nL) (hn : As.length = ar) (hW : (rest.map fun v => v.category).sum ≤ 8)
    (hf : cells + mc ≤ R.cells ∧ slots + ms ≤ R.slots) (hdg : decode cc pc = .ok (.invokevirtual index, 3))
    (kk : ∀ (r : Int32) (H1 : Heap) (locs1 : List Loc), P r H1 → va_S A s.heap H1 locs1 → hr_kp lo n H H1 → W p l e R s m args below meth c H1 locs1 (cells + mc) (slots + ms) Q (F0 m (pc + 3) ls (.int r :: rest))) :
    W p l e R s m args below meth c H locs cells slots Q (F0 m pc ls (As.reverse ++ .ref b :: rest)) := by
  refine hr_callV X hC V hG hS hr hrecv hB hrc hrs hR hsize hn hW hf hdg ?_
  rintro o H1 locs1 ⟨r, rfl, h⟩ hS hk
  exact kk r H1 locs1 h hS hk
theorem hr_callSi {P : Int32 → Heap → Prop} (X : hr_X p s m args c cc nL own s0 D g A) (hC : hr_C l y ws rm s0 lo n H.size As B (hr_Qi P) mc ms) (V : hr_S own index y maxL ar) (hG : GoodIn lw_all ws) (hS : va_S A s.heap H locs) (hr : ∀ q : Nat, lo ≤ q → q < lo + n → A q)
    (hB : B H) (hrc : rm.cells = mc) (hrs : rm.slots = ms) (hR : rm.frames + 1 ≤ R.frames ∧ 8 + (maxL + 11) + rm.locals ≤ R.locals) (hsize : ls.size = nL) (hn : As.length = ar) (hW : (rest.map fun v => v.category).sum ≤ 8)
    (hf : cells + mc ≤ R.cells ∧ slots + ms ≤ R.slots) (hdg : decode cc pc = .ok (.invokestatic index, 3))
    (kk : ∀ (r : Int32) (H1 : Heap) (locs1 : List Loc), P r H1 → va_S A s.heap H1 locs1 → hr_kp lo n H H1 → W p l e R s m args below meth c H1 locs1 (cells + mc) (slots + ms) Q (F0 m (pc + 3) ls (.int r :: rest))) :
    W p l e R s m args below meth c H locs cells slots Q (F0 m pc ls (As.reverse ++ rest)) := by
  refine hr_callS X hC V hG hS hr hB hrc hrs hR hsize hn hW hf hdg ?_
  rintro o H1 locs1 ⟨r, rfl, h⟩ hS hk
  exact kk r H1 locs1 h hS hk
theorem hr_callIv {P : Heap → Prop} (X : hr_X p s m args c cc nL own s0 D g A) (hC : hr_C l y ws rm s0 lo n H.size (.ref b :: As) B (hr_Qv P) mc ms) (V : hr_I own index y maxL ar) (hG : GoodIn lw_all ws) (hS : va_S A s.heap H locs) (hr : ∀ q : Nat, lo ≤ q → q < lo + n → A q)
    (hB : B H) (hrc : rm.cells = mc) (hrs : rm.slots = ms) (hR : rm.frames + 1 ≤ R.frames ∧ 8 + (maxL + 11) + rm.locals ≤ R.locals) (hsize : ls.size = nL) (hn : As.length = ar) (hW : (rest.map fun v => v.category).sum ≤ 8)
    (hf : cells + mc ≤ R.cells ∧ slots + ms ≤ R.slots) (hdg : decode cc pc = .ok (.invokespecial index, 3))
    (kk : ∀ (H1 : Heap) (locs1 : List Loc), P H1 → va_S A s.heap H1 locs1 → hr_kp lo n H H1 → W p l e R s m args below meth c H1 locs1 (cells + mc) (slots + ms) Q (F0 m (pc + 3) ls rest)) :
    W p l e R s m args below meth c H locs cells slots Q (F0 m pc ls (As.reverse ++ .ref b :: rest)) := by
  refine hr_callI X hC V hG hS hr hB hrc hrs hR hsize hn hW hf hdg ?_
  rintro o H1 locs1 ⟨rfl, h⟩ hS hk
  exact kk H1 locs1 h hS hk
end HRE
end
section
/-! WORDS OF THE CALLS; the static methods -/
section HRS
abbrev hr_L (k mc ms : Nat) : Room := { frames := k, cells := mc, slots := ms, locals := 40 * k }
theorem hr_if1 {P : Prop} [Decidable P] (h : ¬ (if P then (1 : Int32) else 0) = 0) : P := by
  by_cases hP : P
  · exact hP
  · rw [if_neg hP] at h; exact absurd rfl h
theorem hr_if0 {P : Prop} [Decidable P] (h : (if P then (1 : Int32) else 0) = 0) : ¬ P := by
  intro hP
  rw [if_pos hP] at h
  exact absurd h (by decide)
theorem hr_lR {j maxL : Nat} {R : Room} {mc ms : Nat} (hL : maxL ≤ 21) (hR : j + 1 ≤ R.frames ∧ 40 * (j + 1) ≤ R.locals) : (hr_L j mc ms).frames + 1 ≤ R.frames ∧ 8 + (maxL + 11) + (hr_L j mc ms).locals ≤ R.locals := by
  refine ⟨hR.1, ?_⟩
  show 8 + (maxL + 11) + 40 * j ≤ R.locals
  omega
theorem v_X0_in : hr_S "HoistRacks" 30 yX0_in 3 3 := ⟨q126, q127, q26, ⟨_, _, q128⟩, by decide +kernel, by decide +kernel, by decide +kernel⟩
theorem v_X0_isRack : hr_S "HoistRacks" 34 yX0_isRack 1 1 := ⟨q123, q124, q26, ⟨_, _, q125⟩, by decide +kernel, by decide +kernel, by decide +kernel⟩
theorem v_X3_init : hr_I "HoistRacks" 50 yX3_init 2 1 := ⟨q142, q143, q29, ⟨_, q144⟩, rfl, by decide +kernel, by decide +kernel, by decide +kernel⟩
theorem v_X4_init : hr_I "HoistRacks" 61 yX4_init 2 1 := ⟨q305, q306, q38, ⟨_, q307⟩, rfl, by decide +kernel, by decide +kernel, by decide +kernel⟩
theorem v_X0_write : hr_V "HoistRacks" 68 yX0_write 2 1 := ⟨q321, q323, qs4, q26, Or.inl ⟨_, _, q324⟩, by decide +kernel, by decide +kernel, by decide +kernel⟩
theorem v_X0_begin : hr_V "HoistRacks" 77 yX0_begin 1 0 := ⟨q325, q327, qs5, q26, Or.inl ⟨_, _, q328⟩, by decide +kernel, by decide +kernel, by decide +kernel⟩
theorem v_X0_work : hr_V "HoistRacks" 80 yX0_work 2 1 := ⟨q344, q346, qs6, q26, Or.inl ⟨_, _, q347⟩, by decide +kernel, by decide +kernel, by decide +kernel⟩
theorem v_X5_init : hr_I "HoistRacks" 91 yX5_init 1 0 := ⟨q337, q338, q39, ⟨_, q339⟩, rfl, by decide +kernel, by decide +kernel, by decide +kernel⟩
theorem v_X0_sheltered : hr_V "HoistRacks" 92 yX0_sheltered 4 1 := ⟨q348, q350, qs7, q26, Or.inr ⟨_, _, _, q351⟩, by decide +kernel, by decide +kernel, by decide +kernel⟩
theorem v_X0_guarded : hr_V "HoistRacks" 95 yX0_guarded 3 1 := ⟨q352, q354, qs8, q26, Or.inr ⟨_, _, _, q355⟩, by decide +kernel, by decide +kernel, by decide +kernel⟩
theorem v_X0_lift : hr_V "HoistRacks" 98 yX0_lift 8 1 := ⟨q293, q295, qs3, q26, Or.inr ⟨_, _, _, q296⟩, by decide +kernel, by decide +kernel, by decide +kernel⟩
theorem v_X6_init : hr_I "HoistRacks" 106 yX6_init 3 2 := ⟨q364, q365, q40, ⟨_, q366⟩, rfl, by decide +kernel, by decide +kernel, by decide +kernel⟩
theorem v_X0_failed : hr_V "HoistRacks" 124 yX0_failed 2 1 := ⟨q289, q291, qs2, q26, Or.inl ⟨_, _, q292⟩, by decide +kernel, by decide +kernel, by decide +kernel⟩
theorem v_X0_behind : hr_V "HoistRacks" 139 yX0_behind 3 1 := ⟨q375, q377, qs9, q26, Or.inl ⟨_, _, q378⟩, by decide +kernel, by decide +kernel, by decide +kernel⟩
theorem v_X0_init : hr_I "HoistRacksLaw" 9 yX0_init 2 0 := ⟨q43, q44, q26, ⟨_, q45⟩, rfl, by decide +kernel, by decide +kernel, by decide +kernel⟩
theorem v_X2_init : hr_I "HoistRacksLaw" 12 yX2_init 1 0 := ⟨q407, q408, q28, ⟨_, q409⟩, rfl, by decide +kernel, by decide +kernel, by decide +kernel⟩
theorem v_LX0_cell : hr_V "HoistRacksLaw" 13 yX0_cell 5 2 := ⟨q119, q120, q121, q26, Or.inl ⟨_, _, q122⟩, by decide +kernel, by decide +kernel, by decide +kernel⟩
theorem v_LX2_cell : hr_V "HoistRacksLaw" 17 yX2_cell 3 2 := ⟨q463, q464, q465, q28, Or.inl ⟨_, _, q466⟩, by decide +kernel, by decide +kernel, by decide +kernel⟩
theorem v_LX0_clear : hr_V "HoistRacksLaw" 18 yX0_clear 3 1 := ⟨q129, q130, q131, q26, Or.inl ⟨_, _, q132⟩, by decide +kernel, by decide +kernel, by decide +kernel⟩
theorem v_LX2_clear : hr_V "HoistRacksLaw" 22 yX2_clear 3 1 := ⟨q476, q477, q478, q28, Or.inl ⟨_, _, q479⟩, by decide +kernel, by decide +kernel, by decide +kernel⟩
theorem v_LX0_tare : hr_V "HoistRacksLaw" 23 yX0_tare 3 1 := ⟨q133, q134, q135, q26, Or.inl ⟨_, _, q136⟩, by decide +kernel, by decide +kernel, by decide +kernel⟩
theorem v_LX2_tare : hr_V "HoistRacksLaw" 26 yX2_tare 3 1 := ⟨q480, q481, q482, q28, Or.inl ⟨_, _, q483⟩, by decide +kernel, by decide +kernel, by decide +kernel⟩
theorem v_LX0_crew : hr_V "HoistRacksLaw" 27 yX0_crew 4 2 := ⟨q137, q138, q139, q26, Or.inl ⟨_, _, q140⟩, by decide +kernel, by decide +kernel, by decide +kernel⟩
theorem v_LX2_crew : hr_V "HoistRacksLaw" 30 yX2_crew 4 2 := ⟨q484, q485, q486, q28, Or.inl ⟨_, _, q487⟩, by decide +kernel, by decide +kernel, by decide +kernel⟩
theorem v_LX0_run : hr_V "HoistRacksLaw" 31 yX0_run 4 2 := ⟨q151, q152, q153, q26, Or.inr ⟨_, _, _, q154⟩, by decide +kernel, by decide +kernel, by decide +kernel⟩
theorem v_LX2_run : hr_V "HoistRacksLaw" 34 yX2_run 3 2 := ⟨q488, q489, q490, q28, Or.inl ⟨_, _, q491⟩, by decide +kernel, by decide +kernel, by decide +kernel⟩
theorem v_LX0_told : hr_V "HoistRacksLaw" 35 yX0_told 2 1 := ⟨q389, q390, q391, q26, Or.inl ⟨_, _, q392⟩, by decide +kernel, by decide +kernel, by decide +kernel⟩
theorem v_LX2_told : hr_V "HoistRacksLaw" 38 yX2_told 2 1 := ⟨q552, q553, q554, q28, Or.inl ⟨_, _, q555⟩, by decide +kernel, by decide +kernel, by decide +kernel⟩
theorem v_LX0_note : hr_V "HoistRacksLaw" 39 yX0_note 2 1 := ⟨q393, q394, q395, q26, Or.inl ⟨_, _, q396⟩, by decide +kernel, by decide +kernel, by decide +kernel⟩
theorem v_LX2_note : hr_V "HoistRacksLaw" 42 yX2_note 2 1 := ⟨q556, q557, q558, q28, Or.inl ⟨_, _, q559⟩, by decide +kernel, by decide +kernel, by decide +kernel⟩
theorem v_LX0_held : hr_V "HoistRacksLaw" 43 yX0_held 2 1 := ⟨q397, q398, q399, q26, Or.inl ⟨_, _, q400⟩, by decide +kernel, by decide +kernel, by decide +kernel⟩
theorem v_LX2_held : hr_V "HoistRacksLaw" 46 yX2_held 2 1 := ⟨q560, q561, q562, q28, Or.inl ⟨_, _, q563⟩, by decide +kernel, by decide +kernel, by decide +kernel⟩
theorem v_LX0_cells : hr_V "HoistRacksLaw" 47 yX0_cells 2 1 := ⟨q401, q402, q403, q26, Or.inl ⟨_, _, q404⟩, by decide +kernel, by decide +kernel, by decide +kernel⟩
theorem v_LX2_cells : hr_V "HoistRacksLaw" 50 yX2_cells 2 1 := ⟨q564, q565, q566, q28, Or.inl ⟨_, _, q567⟩, by decide +kernel, by decide +kernel, by decide +kernel⟩
theorem v_X2_in : hr_S "HoistRacksModel" 32 yX2_in 3 3 := ⟨q470, q471, q28, ⟨_, _, q472⟩, by decide +kernel, by decide +kernel, by decide +kernel⟩
theorem v_X2_isRack : hr_S "HoistRacksModel" 36 yX2_isRack 1 1 := ⟨q467, q468, q28, ⟨_, _, q469⟩, by decide +kernel, by decide +kernel, by decide +kernel⟩
theorem v_X2_isCell : hr_S "HoistRacksModel" 40 yX2_isCell 1 1 := ⟨q473, q474, q28, ⟨_, _, q475⟩, by decide +kernel, by decide +kernel, by decide +kernel⟩
theorem v_X2_writes : hr_V "HoistRacksModel" 52 yX2_writes 2 1 := ⟨q500, q502, qs12, q28, Or.inl ⟨_, _, q503⟩, by decide +kernel, by decide +kernel, by decide +kernel⟩
theorem v_X2_closes : hr_V "HoistRacksModel" 56 yX2_closes 1 0 := ⟨q516, q518, qs16, q28, Or.inl ⟨_, _, q519⟩, by decide +kernel, by decide +kernel, by decide +kernel⟩
theorem v_X2_cellAtHand : hr_V "HoistRacksModel" 68 yX2_cellAtHand 1 0 := ⟨q532, q534, qs20, q28, Or.inl ⟨_, _, q535⟩, by decide +kernel, by decide +kernel, by decide +kernel⟩
theorem v_X2_fails : hr_V "HoistRacksModel" 75 yX2_fails 2 1 := ⟨q492, q494, qs10, q28, Or.inl ⟨_, _, q495⟩, by decide +kernel, by decide +kernel, by decide +kernel⟩
theorem v_X2_takes : hr_V "HoistRacksModel" 78 yX2_takes 2 0 := ⟨q528, q530, qs19, q28, Or.inl ⟨_, _, q531⟩, by decide +kernel, by decide +kernel, by decide +kernel⟩
theorem v_X2_passes : hr_V "HoistRacksModel" 82 yX2_passes 1 0 := ⟨q512, q514, qs15, q28, Or.inl ⟨_, _, q515⟩, by decide +kernel, by decide +kernel, by decide +kernel⟩
theorem v_X2_begins : hr_V "HoistRacksModel" 88 yX2_begins 2 1 := ⟨q496, q498, qs11, q28, Or.inl ⟨_, _, q499⟩, by decide +kernel, by decide +kernel, by decide +kernel⟩
theorem v_X2_up : hr_V "HoistRacksModel" 91 yX2_up 2 0 := ⟨q524, q526, qs18, q28, Or.inl ⟨_, _, q527⟩, by decide +kernel, by decide +kernel, by decide +kernel⟩
theorem v_X2_ends : hr_V "HoistRacksModel" 94 yX2_ends 1 0 := ⟨q508, q510, qs14, q28, Or.inl ⟨_, _, q511⟩, by decide +kernel, by decide +kernel, by decide +kernel⟩
theorem v_X2_finishes : hr_V "HoistRacksModel" 100 yX2_finishes 1 0 := ⟨q504, q506, qs13, q28, Or.inl ⟨_, _, q507⟩, by decide +kernel, by decide +kernel, by decide +kernel⟩
theorem v_X2_lifts : hr_V "HoistRacksModel" 106 yX2_lifts 2 1 := ⟨q536, q538, qs21, q28, Or.inl ⟨_, _, q539⟩, by decide +kernel, by decide +kernel, by decide +kernel⟩
theorem v_X2_barrel : hr_V "HoistRacksModel" 109 yX2_barrel 2 1 := ⟨q540, q542, qs22, q28, Or.inl ⟨_, _, q543⟩, by decide +kernel, by decide +kernel, by decide +kernel⟩
theorem v_X2_help : hr_V "HoistRacksModel" 112 yX2_help 2 1 := ⟨q544, q546, qs23, q28, Or.inl ⟨_, _, q547⟩, by decide +kernel, by decide +kernel, by decide +kernel⟩
theorem v_X2_leaves : hr_V "HoistRacksModel" 115 yX2_leaves 2 1 := ⟨q548, q550, qs24, q28, Or.inl ⟨_, _, q551⟩, by decide +kernel, by decide +kernel, by decide +kernel⟩
theorem v_X2_doCell : hr_V "HoistRacksModel" 118 yX2_doCell 2 0 := ⟨q520, q522, qs17, q28, Or.inl ⟨_, _, q523⟩, by decide +kernel, by decide +kernel, by decide +kernel⟩
set_option maxHeartbeats 4000000 in
theorem k_X0_in (l : Launch) {s0 : State} {D : va_G} {g : ClassId × ClassId × ClassId} (Z : hr_Z s0 D g) (v a b : Int32) (H : Heap) : hr_C l yX0_in (ws_ yX0_in cX0_in 3 (some .boolean)) (hr_L 0 0 0) s0 s0.heap.size 0 H.size [.int v, .int a, .int b] (fun H' => H' = H) (hr_Qi (fun r H' => r = (if a ≤ v ∧ v ≤ b then 1 else 0) ∧ H' = H)) 0 0 := by
  refine hr_meth (by decide) (Nat.le_of_ble_eq_true rfl) Z (Nat.le_refl _) ?_
  intro p e s m below meth c ls X hr hlk hnm htab hadm hsz hC hl
  have hl : lv_has ls 3 [(0, _), (1, _), (2, _)] := hl
  have hS := hr_S0 (s := s) (lo := s0.heap.size) (n := 0)
  refine lv_iload_n X.ex X.by dX0_in_0 rfl (lv_at hl 0 rfl) ?_
  refine lv_iload_n X.ex X.by dX0_in_1 rfl (lv_at hl 1 rfl) ?_
  refine lv_icmp_lt (tgt := 14) X.ex X.by dX0_in_2 (by decide) (fun c_2 => ?_) (fun c_2 => ?_)
  · have c_2 := c_2
    refine lv_iconst (v := 0) X.ex X.by dX0_in_14 (by decide) ?_
    refine hr_zret X hr hlk hS (by decide) ⟨_, rfl, ?_, hC⟩ (Nat.le_refl _) (Nat.le_refl _) dX0_in_15
    first
      | exact (if_pos ⟨Int32.not_lt.mp c_2, Int32.not_lt.mp c_7⟩).symm
      | exact (if_neg (fun h => absurd h.1 (Int32.not_le.mpr c_2))).symm
      | exact (if_neg (fun h => absurd h.2 (Int32.not_le.mpr c_7))).symm
  · refine lv_iload_n X.ex X.by dX0_in_5 rfl (lv_at hl 0 rfl) ?_
    refine lv_iload_n X.ex X.by dX0_in_6 rfl (lv_at hl 2 rfl) ?_
    refine lv_icmp_gt (tgt := 14) X.ex X.by dX0_in_7 (by decide) (fun c_7 => ?_) (fun c_7 => ?_)
    · refine lv_iconst (v := 0) X.ex X.by dX0_in_14 (by decide) ?_
      refine hr_zret X hr hlk hS (by decide) ⟨_, rfl, ?_, hC⟩ (Nat.le_refl _) (Nat.le_refl _) dX0_in_15
      first
        | exact (if_pos ⟨Int32.not_lt.mp c_2, Int32.not_lt.mp c_7⟩).symm
        | exact (if_neg (fun h => absurd h.1 (Int32.not_le.mpr c_2))).symm
        | exact (if_neg (fun h => absurd h.2 (Int32.not_le.mpr c_7))).symm
    · refine lv_iconst (v := 1) X.ex X.by dX0_in_10 (by decide) ?_
      refine lv_goto (tgt := 15) X.ex X.by dX0_in_11 (by decide) ?_
      refine hr_zret X hr hlk hS (by decide) ⟨_, rfl, ?_, hC⟩ (Nat.le_refl _) (Nat.le_refl _) dX0_in_15
      first
        | exact (if_pos ⟨Int32.not_lt.mp c_2, Int32.not_lt.mp c_7⟩).symm
        | exact (if_neg (fun h => absurd h.1 (Int32.not_le.mpr c_2))).symm
        | exact (if_neg (fun h => absurd h.2 (Int32.not_le.mpr c_7))).symm
theorem c_X0_in {p : Program} {l : Launch} {e : Env} {R : Room} {s : State} {m : MethodId} {args : Array Value} {below : List Frame} {meth : Method} {c : Code} {H : Heap} {locs : List Loc} {cells slots : Nat} {Q : State → Prop} {cc : ByteArray} {nL : Nat} {s0 : State} {D : va_G} {g : ClassId × ClassId × ClassId} {A : Nat → Prop} {pc : Nat} {ls : Array Slot} {rest : List Value} (X : hr_X p s m args c cc nL RX0 s0 D g A) (hS : va_S A s.heap H locs) {v a b : Int32} (hR : 1 ≤ R.frames ∧ 40 ≤ R.locals) (hf : cells ≤ R.cells ∧ slots ≤ R.slots) (hsize : ls.size = nL) (hW : (rest.map fun v => v.category).sum ≤ 8) (hdg : decode cc pc = .ok (.invokestatic 30, 3))
    (kk : ∀ locs1 : List Loc, va_S A s.heap H locs1 → W p l e R s m args below meth c H locs1 cells slots Q (F0 m (pc + 3) ls (.int (if a ≤ v ∧ v ≤ b then 1 else 0) :: rest))) : W p l e R s m args below meth c H locs cells slots Q (F0 m pc ls (.int b :: .int a :: .int v :: rest)) :=
  hr_callSi X (k_X0_in l X.2.1 v a b H) v_X0_in (lw_meth q128) hS (fun q h1 h2 => absurd h2 (by omega)) rfl rfl rfl (hr_lR (by decide) hR) hsize rfl hW hf hdg (fun r H1 locs1 hq hS9 _ => by obtain ⟨rfl, rfl⟩ := hq; exact kk locs1 hS9)
set_option maxHeartbeats 4000000 in
theorem k_X0_isRack (l : Launch) {s0 : State} {D : va_G} {g : ClassId × ClassId × ClassId} (Z : hr_Z s0 D g) (v : Int32) (H : Heap) : hr_C l yX0_isRack (ws_ yX0_isRack cX0_isRack 1 (some .boolean)) (hr_L 1 0 0) s0 s0.heap.size 0 H.size [.int v] (fun H' => H' = H) (hr_Qi (fun r H' => r = (if 0 ≤ v ∧ v ≤ 7 then 1 else 0) ∧ H' = H)) 0 0 := by
  refine hr_meth (by decide) (Nat.le_of_ble_eq_true rfl) Z (Nat.le_refl _) ?_
  intro p e s m below meth c ls X hr hlk hnm htab hadm hsz hC hl
  have hl : lv_has ls 1 [(0, _)] := hl
  have hS := hr_S0 (s := s) (lo := s0.heap.size) (n := 0)
  refine lv_iload_n X.ex X.by dX0_isRack_0 rfl (lv_at hl 0 rfl) ?_
  refine lv_iconst (v := 0) X.ex X.by dX0_isRack_1 (by decide) ?_
  refine lv_bipush (v := 7) X.ex X.by dX0_isRack_2 (by decide) ?_
  refine c_X0_in X hS ⟨Nat.le_of_ble_eq_true rfl, Nat.le_of_ble_eq_true rfl⟩ ⟨Nat.zero_le _, Nat.zero_le _⟩ hl.1 (Nat.le_of_ble_eq_true rfl) dX0_isRack_4 (fun locs hS => ?_)
  exact hr_zret X hr hlk hS (by split <;> decide) ⟨_, rfl, rfl, hC⟩ (Nat.le_refl _) (Nat.le_refl _) dX0_isRack_7
theorem c_X0_isRack {p : Program} {l : Launch} {e : Env} {R : Room} {s : State} {m : MethodId} {args : Array Value} {below : List Frame} {meth : Method} {c : Code} {H : Heap} {locs : List Loc} {cells slots : Nat} {Q : State → Prop} {cc : ByteArray} {nL : Nat} {s0 : State} {D : va_G} {g : ClassId × ClassId × ClassId} {A : Nat → Prop} {pc : Nat} {ls : Array Slot} {rest : List Value} (X : hr_X p s m args c cc nL RX0 s0 D g A) (hS : va_S A s.heap H locs) {v : Int32} (hR : 2 ≤ R.frames ∧ 80 ≤ R.locals) (hf : cells ≤ R.cells ∧ slots ≤ R.slots) (hsize : ls.size = nL) (hW : (rest.map fun v => v.category).sum ≤ 8) (hdg : decode cc pc = .ok (.invokestatic 34, 3))
    (kk : ∀ locs1 : List Loc, va_S A s.heap H locs1 → W p l e R s m args below meth c H locs1 cells slots Q (F0 m (pc + 3) ls (.int (if 0 ≤ v ∧ v ≤ 7 then 1 else 0) :: rest))) : W p l e R s m args below meth c H locs cells slots Q (F0 m pc ls (.int v :: rest)) :=
  hr_callSi X (k_X0_isRack l X.2.1 v H) v_X0_isRack (lw_meth q125) hS (fun q h1 h2 => absurd h2 (by omega)) rfl rfl rfl (hr_lR (by decide) hR) hsize rfl hW hf hdg (fun r H1 locs1 hq hS9 _ => by obtain ⟨rfl, rfl⟩ := hq; exact kk locs1 hS9)
set_option maxHeartbeats 4000000 in
theorem k_X2_in (l : Launch) {s0 : State} {D : va_G} {g : ClassId × ClassId × ClassId} (Z : hr_Z s0 D g) (v a b : Int32) (H : Heap) : hr_C l yX2_in (ws_ yX2_in cX2_in 3 (some .boolean)) (hr_L 0 0 0) s0 s0.heap.size 0 H.size [.int v, .int a, .int b] (fun H' => H' = H) (hr_Qi (fun r H' => r = (if a ≤ v ∧ v ≤ b then 1 else 0) ∧ H' = H)) 0 0 := by
  refine hr_meth (by decide) (Nat.le_of_ble_eq_true rfl) Z (Nat.le_refl _) ?_
  intro p e s m below meth c ls X hr hlk hnm htab hadm hsz hC hl
  have hl : lv_has ls 3 [(0, _), (1, _), (2, _)] := hl
  have hS := hr_S0 (s := s) (lo := s0.heap.size) (n := 0)
  refine lv_iload_n X.ex X.by dX2_in_0 rfl (lv_at hl 0 rfl) ?_
  refine lv_iload_n X.ex X.by dX2_in_1 rfl (lv_at hl 1 rfl) ?_
  refine lv_icmp_lt (tgt := 14) X.ex X.by dX2_in_2 (by decide) (fun c_2 => ?_) (fun c_2 => ?_)
  · have c_2 := c_2
    refine lv_iconst (v := 0) X.ex X.by dX2_in_14 (by decide) ?_
    refine hr_zret X hr hlk hS (by decide) ⟨_, rfl, ?_, hC⟩ (Nat.le_refl _) (Nat.le_refl _) dX2_in_15
    first
      | exact (if_pos ⟨Int32.not_lt.mp c_2, Int32.not_lt.mp c_7⟩).symm
      | exact (if_neg (fun h => absurd h.1 (Int32.not_le.mpr c_2))).symm
      | exact (if_neg (fun h => absurd h.2 (Int32.not_le.mpr c_7))).symm
  · refine lv_iload_n X.ex X.by dX2_in_5 rfl (lv_at hl 0 rfl) ?_
    refine lv_iload_n X.ex X.by dX2_in_6 rfl (lv_at hl 2 rfl) ?_
    refine lv_icmp_gt (tgt := 14) X.ex X.by dX2_in_7 (by decide) (fun c_7 => ?_) (fun c_7 => ?_)
    · refine lv_iconst (v := 0) X.ex X.by dX2_in_14 (by decide) ?_
      refine hr_zret X hr hlk hS (by decide) ⟨_, rfl, ?_, hC⟩ (Nat.le_refl _) (Nat.le_refl _) dX2_in_15
      first
        | exact (if_pos ⟨Int32.not_lt.mp c_2, Int32.not_lt.mp c_7⟩).symm
        | exact (if_neg (fun h => absurd h.1 (Int32.not_le.mpr c_2))).symm
        | exact (if_neg (fun h => absurd h.2 (Int32.not_le.mpr c_7))).symm
    · refine lv_iconst (v := 1) X.ex X.by dX2_in_10 (by decide) ?_
      refine lv_goto (tgt := 15) X.ex X.by dX2_in_11 (by decide) ?_
      refine hr_zret X hr hlk hS (by decide) ⟨_, rfl, ?_, hC⟩ (Nat.le_refl _) (Nat.le_refl _) dX2_in_15
      first
        | exact (if_pos ⟨Int32.not_lt.mp c_2, Int32.not_lt.mp c_7⟩).symm
        | exact (if_neg (fun h => absurd h.1 (Int32.not_le.mpr c_2))).symm
        | exact (if_neg (fun h => absurd h.2 (Int32.not_le.mpr c_7))).symm
theorem c_X2_in {p : Program} {l : Launch} {e : Env} {R : Room} {s : State} {m : MethodId} {args : Array Value} {below : List Frame} {meth : Method} {c : Code} {H : Heap} {locs : List Loc} {cells slots : Nat} {Q : State → Prop} {cc : ByteArray} {nL : Nat} {s0 : State} {D : va_G} {g : ClassId × ClassId × ClassId} {A : Nat → Prop} {pc : Nat} {ls : Array Slot} {rest : List Value} (X : hr_X p s m args c cc nL RX2 s0 D g A) (hS : va_S A s.heap H locs) {v a b : Int32} (hR : 1 ≤ R.frames ∧ 40 ≤ R.locals) (hf : cells ≤ R.cells ∧ slots ≤ R.slots) (hsize : ls.size = nL) (hW : (rest.map fun v => v.category).sum ≤ 8) (hdg : decode cc pc = .ok (.invokestatic 32, 3))
    (kk : ∀ locs1 : List Loc, va_S A s.heap H locs1 → W p l e R s m args below meth c H locs1 cells slots Q (F0 m (pc + 3) ls (.int (if a ≤ v ∧ v ≤ b then 1 else 0) :: rest))) : W p l e R s m args below meth c H locs cells slots Q (F0 m pc ls (.int b :: .int a :: .int v :: rest)) :=
  hr_callSi X (k_X2_in l X.2.1 v a b H) v_X2_in (lw_meth q472) hS (fun q h1 h2 => absurd h2 (by omega)) rfl rfl rfl (hr_lR (by decide) hR) hsize rfl hW hf hdg (fun r H1 locs1 hq hS9 _ => by obtain ⟨rfl, rfl⟩ := hq; exact kk locs1 hS9)
set_option maxHeartbeats 4000000 in
theorem k_X2_isRack (l : Launch) {s0 : State} {D : va_G} {g : ClassId × ClassId × ClassId} (Z : hr_Z s0 D g) (v : Int32) (H : Heap) : hr_C l yX2_isRack (ws_ yX2_isRack cX2_isRack 1 (some .boolean)) (hr_L 1 0 0) s0 s0.heap.size 0 H.size [.int v] (fun H' => H' = H) (hr_Qi (fun r H' => r = (if 0 ≤ v ∧ v ≤ 7 then 1 else 0) ∧ H' = H)) 0 0 := by
  refine hr_meth (by decide) (Nat.le_of_ble_eq_true rfl) Z (Nat.le_refl _) ?_
  intro p e s m below meth c ls X hr hlk hnm htab hadm hsz hC hl
  have hl : lv_has ls 1 [(0, _)] := hl
  have hS := hr_S0 (s := s) (lo := s0.heap.size) (n := 0)
  refine lv_iload_n X.ex X.by dX2_isRack_0 rfl (lv_at hl 0 rfl) ?_
  refine lv_iconst (v := 0) X.ex X.by dX2_isRack_1 (by decide) ?_
  refine lv_bipush (v := 7) X.ex X.by dX2_isRack_2 (by decide) ?_
  refine c_X2_in X hS ⟨Nat.le_of_ble_eq_true rfl, Nat.le_of_ble_eq_true rfl⟩ ⟨Nat.zero_le _, Nat.zero_le _⟩ hl.1 (Nat.le_of_ble_eq_true rfl) dX2_isRack_4 (fun locs hS => ?_)
  exact hr_zret X hr hlk hS (by split <;> decide) ⟨_, rfl, rfl, hC⟩ (Nat.le_refl _) (Nat.le_refl _) dX2_isRack_7
theorem c_X2_isRack {p : Program} {l : Launch} {e : Env} {R : Room} {s : State} {m : MethodId} {args : Array Value} {below : List Frame} {meth : Method} {c : Code} {H : Heap} {locs : List Loc} {cells slots : Nat} {Q : State → Prop} {cc : ByteArray} {nL : Nat} {s0 : State} {D : va_G} {g : ClassId × ClassId × ClassId} {A : Nat → Prop} {pc : Nat} {ls : Array Slot} {rest : List Value} (X : hr_X p s m args c cc nL RX2 s0 D g A) (hS : va_S A s.heap H locs) {v : Int32} (hR : 2 ≤ R.frames ∧ 80 ≤ R.locals) (hf : cells ≤ R.cells ∧ slots ≤ R.slots) (hsize : ls.size = nL) (hW : (rest.map fun v => v.category).sum ≤ 8) (hdg : decode cc pc = .ok (.invokestatic 36, 3))
    (kk : ∀ locs1 : List Loc, va_S A s.heap H locs1 → W p l e R s m args below meth c H locs1 cells slots Q (F0 m (pc + 3) ls (.int (if 0 ≤ v ∧ v ≤ 7 then 1 else 0) :: rest))) : W p l e R s m args below meth c H locs cells slots Q (F0 m pc ls (.int v :: rest)) :=
  hr_callSi X (k_X2_isRack l X.2.1 v H) v_X2_isRack (lw_meth q469) hS (fun q h1 h2 => absurd h2 (by omega)) rfl rfl rfl (hr_lR (by decide) hR) hsize rfl hW hf hdg (fun r H1 locs1 hq hS9 _ => by obtain ⟨rfl, rfl⟩ := hq; exact kk locs1 hS9)
end HRS
end
section
/-! the reference's stack in its two arrays; its failure in four numbers; the machine keeps its stack in order -/
section HPQ
def hp_tk : List (Nat × Nat) → (Nat → Int32) → (Nat → Int32) → Prop
  | [], _, _ => True
  | (r, k) :: l, rk, at' => rk l.length = nI r ∧ at' l.length = nI k ∧ hp_tk l rk at'
theorem hp_tk.keep {l : List (Nat × Nat)} {rk at' rk2 at2 : Nat → Int32} (ht : hp_tk l rk at') (h1 : ∀ i, i < l.length → rk2 i = rk i) (h2 : ∀ i, i < l.length → at2 i = at' i) : hp_tk l rk2 at2 := by
  induction l with
  | nil => trivial
  | cons q l ih =>
    obtain ⟨r, k⟩ := q
    exact ⟨(h1 _ (Nat.lt_succ_self _)).trans ht.1, (h2 _ (Nat.lt_succ_self _)).trans ht.2.1, ih ht.2.2 (fun i hi => h1 i (Nat.lt_succ_of_lt hi)) (fun i hi => h2 i (Nat.lt_succ_of_lt hi))⟩
/-- the top's place goes on -/
theorem hp_tk.at {r k : Nat} {l : List (Nat × Nat)} {rk at' : Nat → Int32} (ht : hp_tk ((r, k) :: l) rk at') (w : Nat) : hp_tk ((r, w) :: l) rk (upd at' l.length (nI w)) :=
  ⟨ht.1, by simp [upd], ht.2.2.keep (fun _ _ => rfl) (fun i hi => by simp [upd, Nat.ne_of_lt hi])⟩
theorem hp_tk.push {l : List (Nat × Nat)} {rk at' : Nat → Int32} (ht : hp_tk l rk at') (r k : Nat) : hp_tk ((r, k) :: l) (upd rk l.length (nI r)) (upd at' l.length (nI k)) :=
  ⟨by simp [upd], by simp [upd], ht.keep (fun i hi => by simp [upd, Nat.ne_of_lt hi]) (fun i hi => by simp [upd, Nat.ne_of_lt hi])⟩
def hp_f (x : hp_X) : Int32 × Int32 × Int32 × Int32 := (nI (hp_code x), nI x.2.length, nI x.1, match x.2 with
  | [] => -1
  | r :: _ => nI r)
def hp_fo (o : Option hp_X) : Int32 × Int32 × Int32 × Int32 := match o with
  | none => (0, 0, 0, -1)
  | some x => hp_f x
/-- a failure as it may come: a kind of 1 to 7, and nothing holds the seventh up -/
def hp_xv (x : hp_X) : Prop := 1 ≤ x.1 ∧ x.1 ≤ 7 ∧ (x.1 = 7 → x.2 = [])
theorem hp_code_le {x : hp_X} (hx : hp_xv x) : 1 ≤ hp_code x ∧ hp_code x ≤ 7 := by
  unfold hp_code
  split
  · exact ⟨hx.1, hx.2.1⟩
  · omega
theorem hp_code7 {x : hp_X} (hx : hp_xv x) : nI (hp_code x) = 7 ↔ x.1 = 7 := by
  have e : (7 : Int32) = nI 7 := by decide
  have hc := hp_code_le hx
  rw [e, nI_eq (by omega) (by decide)]
  unfold hp_code at hc ⊢
  split
  · exact Iff.rfl
  · next h =>
    constructor
    · intro z; omega
    · intro z; exact absurd (hx.2.2 z) h
theorem hp_nI {x : Int32} (hx : 0 ≤ x) : nI x.toNatClampNeg = x := by
  have h : ¬ x < 0 := Int32.not_lt.mpr hx
  obtain ⟨j, hj, e⟩ := nI_of h
  rw [e, nI_clamp hj]
variable {M : Nat → Nat} {C : Nat → Nat → Int32} {h : Nat → Int32} {ta lo : Int32}
theorem hp_res_ge : ∀ (l : List (Nat × Nat)) (x : hp_X) (σ : hp_S), hp_n σ ≤ hp_n (hp_res C l x σ).1 := by
  intro l
  induction l with
  | nil => intro x σ; exact Nat.le_refl _
  | cons q l ih =>
    intro x σ
    obtain ⟨r, k⟩ := q
    unfold hp_res
    split
    · have := ih x (hp_wr (-1) (hp_cl σ))
      have e : hp_n (hp_wr (-1) (hp_cl σ)) = hp_n σ + 3 := rfl
      omega
    · split
      · have := ih (x.1, (C r k - 2000).toNatClampNeg :: x.2) (hp_wr (-1) (hp_cl (hp_exc σ)))
        have e : hp_n (hp_wr (-1) (hp_cl (hp_exc σ))) = hp_n σ + 3 := rfl
        omega
      · show hp_n σ ≤ hp_n σ + 4
        omega
theorem hp_ret_ge (l : List (Nat × Nat)) (σ : hp_S) : hp_n σ ≤ hp_n (hp_ret l σ).1 := by
  cases l with
  | nil => exact Nat.le_refl _
  | cons q l => obtain ⟨r, k⟩ := q; show hp_n σ ≤ hp_n σ + 3; omega
theorem hp_doc_ge (r k : Nat) (l : List (Nat × Nat)) (σ : hp_S) : hp_n σ + 2 ≤ hp_n (hp_doc C h ta lo r k l σ).1 := by
  have e2 : ∀ τ : hp_S, hp_n (hp_wr (-1) (hp_cl τ)) = hp_n τ + 3 := fun _ => rfl
  have e0 : hp_n (hp_beg (hp_wr 3 (hp_wr 2 σ))) = hp_n σ + 2 := rfl
  have hup : ∀ x τ, hp_n τ ≤ hp_n (hp_up C l x τ).1 := by
    intro x τ
    have := hp_res_ge (C := C) l x (hp_wr (-1) (hp_cl τ))
    have := e2 τ
    unfold hp_up
    omega
  unfold hp_doc
  split
  · exact hup _ (hp_exc (hp_wr 3 (hp_wr 2 σ)))
  · split
    · split
      · show hp_n σ + 2 ≤ hp_n σ + 3; omega
      · exact hp_res_ge _ _ (hp_exc (hp_beg (hp_wr 3 (hp_wr 2 σ))))
    · split
      · split
        · exact hup _ (hp_exc (hp_beg (hp_wr 3 (hp_wr 2 σ))))
        · show hp_n σ + 2 ≤ hp_n σ + 5; omega
      · split
        · split
          · exact hup _ (hp_exc (hp_beg (hp_wr 3 (hp_wr 2 σ))))
          · split
            · exact hup _ (hp_exc (hp_beg (hp_wr 3 (hp_wr 2 σ))))
            · show hp_n σ + 2 ≤ hp_n σ + 5; omega
        · split
          · exact hup _ (hp_exc (hp_beg (hp_wr 3 (hp_wr 2 σ))))
          · split
            · refine Nat.le_trans ?_ (hp_ret_ge _ _)
              show hp_n σ + 2 ≤ hp_n σ + 6; omega
            · split
              · show hp_n σ + 2 ≤ hp_n σ + 4; omega
              · refine Nat.le_trans ?_ (hp_ret_ge _ _)
                show hp_n σ + 2 ≤ hp_n σ + 5; omega
theorem hp_step_ge (t : hp_T) : hp_n t.1 ≤ hp_n (hp_step M C h ta lo t).1 := by
  obtain ⟨σ, l, o⟩ := t
  cases l with
  | nil => exact Nat.le_refl _
  | cons q l =>
    obtain ⟨r, k⟩ := q
    unfold hp_step
    dsimp only
    split
    · refine Nat.le_trans ?_ (hp_ret_ge _ _)
      show hp_n σ ≤ hp_n σ + 2; omega
    · have := hp_doc_ge (C := C) (h := h) (ta := ta) (lo := lo) r k l σ
      omega
theorem hp_it_ge (n : Nat) (t : hp_T) : hp_n t.1 ≤ hp_n (hp_it M C h ta lo n t).1 := by
  induction n generalizing t with
  | zero => exact Nat.le_refl _
  | succ n ih => exact Nat.le_trans (hp_step_ge t) (ih _)
/-- the lifts under way below the topmost -/
def hp_lv (M : Nat → Nat) (l : List (Nat × Nat)) : Prop := ∀ q ∈ l, q.1 < 8 ∧ q.2 < M q.1
theorem hp_lv.tl {q : Nat × Nat} {l : List (Nat × Nat)} (hl : hp_lv M (q :: l)) : hp_lv M l := fun x hx => hl x (List.mem_cons_of_mem _ hx)
theorem hp_lv.hd {q : Nat × Nat} {l : List (Nat × Nat)} (hl : hp_lv M (q :: l)) : q.1 < 8 ∧ q.2 < M q.1 := hl q List.mem_cons_self
/-- the machine's state between two steps -/
def hp_tv (M : Nat → Nat) (t : hp_T) : Prop := match t.2.1 with
  | [] => ∀ x, t.2.2 = some x → hp_xv x
  | (r, k) :: l => r < 8 ∧ k ≤ M r ∧ l.length < 6 ∧ hp_lv M l ∧ t.2.2 = none
theorem hp_ret_tv {l : List (Nat × Nat)} (hl : hp_lv M l) (hn : l.length ≤ 6) (σ : hp_S) : hp_tv M (hp_ret l σ) := by
  cases l with
  | nil => intro x hx; cases hx
  | cons q l =>
    obtain ⟨r, k⟩ := q
    have h1 := hl.hd
    refine ⟨h1.1, h1.2, ?_, hl.tl, rfl⟩
    have : l.length + 1 ≤ 6 := hn
    omega
theorem hp_res_tv : ∀ {l : List (Nat × Nat)} (x : hp_X) (σ : hp_S), hp_lv M l → l.length ≤ 6 → hp_xv x → hp_tv M (hp_res C l x σ) := by
  intro l
  induction l with
  | nil => intro x σ _ _ hx y hy; cases hy; exact hx
  | cons q l ih =>
    intro x σ hl hn hx
    obtain ⟨r, k⟩ := q
    have hn' : l.length + 1 ≤ 6 := hn
    unfold hp_res
    split
    · exact ih x _ hl.tl (by omega) hx
    · next hc =>
      split
      · exact ih _ _ hl.tl (by omega) ⟨hx.1, hx.2.1, fun z => absurd (Or.inl z) hc⟩
      · have h1 := hl.hd
        exact ⟨h1.1, h1.2, by omega, hl.tl, rfl⟩
set_option maxRecDepth 100000 in
theorem hp_step_tv {t : hp_T} (hM : ∀ r, r < 8 → M r ≤ 12) (hC : ∀ r k, r < 8 → k < M r → hp_ok (C r k)) (ht : hp_tv M t) : hp_tv M (hp_step M C h ta lo t) := by
  obtain ⟨σ, l, o⟩ := t
  cases l with
  | nil => exact ht
  | cons q l =>
    obtain ⟨r, k⟩ := q
    obtain ⟨h1, h2, h3, h4, h5⟩ := ht
    unfold hp_step
    dsimp only
    split
    · exact hp_ret_tv h4 (by omega) _
    · next hne =>
      have hk : k < M r := by omega
      have hup : ∀ j τ, 1 ≤ j → j ≤ 7 → hp_tv M (hp_up C l (j, []) τ) := fun j τ a b => hp_res_tv _ _ h4 (by omega) ⟨a, b, fun _ => rfl⟩
      have hps : ∀ τ : hp_S, hp_tv M (τ, (r, k + 1) :: l, none) := fun τ => ⟨h1, hk, h3, h4, rfl⟩
      have hl2 : hp_lv M ((r, k) :: l) := by
        intro q hq
        rcases List.mem_cons.mp hq with e | e
        · rw [e]; exact ⟨h1, hk⟩
        · exact h4 q e
      by_cases a1 : hp_bg σ = 300
      · rw [hp_doc, if_pos a1]; exact hup 7 _ (by decide) (by decide)
      by_cases a2 : 1000 ≤ C r k
      · by_cases a3 : l.length + 1 < 6
        · rw [hp_doc, if_neg a1, if_pos a2, if_pos a3]
          refine ⟨?_, Nat.zero_le _, a3, hl2, rfl⟩
          obtain ⟨p3, p2, p1⟩ := hp_rack (hC r k h1 hk) a2
          by_cases q3 : 3000 ≤ C r k
          · exact (p3 q3).2
          · by_cases q2 : 2000 ≤ C r k
            · exact (p2 q3 q2).2
            · exact (p1 q3 q2).2
        · rw [hp_doc, if_neg a1, if_pos a2, if_neg a3]
          exact hp_res_tv _ _ hl2 (by simp; omega) ⟨by decide, by decide, fun z => absurd z (by decide)⟩
      by_cases a4 : 0 < C r k
      · by_cases a5 : C r k = ta
        · rw [hp_doc, if_neg a1, if_neg a2, if_pos a4, if_pos a5]; exact hup 2 _ (by decide) (by decide)
        · rw [hp_doc, if_neg a1, if_neg a2, if_pos a4, if_neg a5]; exact hps _
      by_cases a6 : C r k < -9
      · by_cases a7 : 3 < (-10 - C r k).toNatClampNeg
        · rw [hp_doc, if_neg a1, if_neg a2, if_neg a4, if_pos a6, if_pos a7]; exact hup 4 _ (by decide) (by decide)
        · by_cases a8 : h (-10 - C r k).toNatClampNeg = 0
          · rw [hp_doc, if_neg a1, if_neg a2, if_neg a4, if_pos a6, if_neg a7, if_pos a8]; exact hup 3 _ (by decide) (by decide)
          · rw [hp_doc, if_neg a1, if_neg a2, if_neg a4, if_pos a6, if_neg a7, if_neg a8]; exact hps _
      by_cases a9 : C r k = -1
      · rw [hp_doc, if_neg a1, if_neg a2, if_neg a4, if_neg a6, if_pos a9]; exact hup 1 _ (by decide) (by decide)
      by_cases b1 : C r k = -2
      · rw [hp_doc, if_neg a1, if_neg a2, if_neg a4, if_neg a6, if_neg a9, if_pos b1]; exact hp_ret_tv h4 (by omega) _
      by_cases b2 : C r k = -3
      · rw [hp_doc, if_neg a1, if_neg a2, if_neg a4, if_neg a6, if_neg a9, if_neg b1, if_pos b2]; exact hps _
      · rw [hp_doc, if_neg a1, if_neg a2, if_neg a4, if_neg a6, if_neg a9, if_neg b1, if_neg b2]; exact hp_ret_tv h4 (by omega) _
end HPQ
end
section
/-! THE REFERENCE's PRIVATE METHODS -/
section HRT
/-- the reference during a run: its failure's four numbers, the run's numbers, the lifts under way -/
def hr_tR (D : va_G) (g : ClassId × ClassId × ClassId) (m : Nat) (M : Nat → Nat) (C : Nat → Nat → Int32) (h : Nat → Int32) (ta lo : Int32) (f : Int32 × Int32 × Int32 × Int32) (σ : hp_S) (stk : List (Nat × Nat)) (H : Heap) : Prop :=
  ∃ rk at' : Nat → Int32, hp_tk stk rk at' ∧ hr_tw D g m (hr_tf m ta lo σ.1 f.1 f.2.1 f.2.2.1 f.2.2.2 (nI σ.2.1) (nI σ.2.2.1) (nI σ.2.2.2.2.length) (nI stk.length)) M C h σ.2.2.2.2 rk at' H
theorem hr_tR.recv {p : Program} {s : State} {m0 : MethodId} {args : Array Value} {c : Code} {cc : ByteArray} {nL : Nat} {own : String} {s0 : State} {D : va_G} {g : ClassId × ClassId × ClassId} {A : Nat → Prop} (X : hr_X p s m0 args c cc nL own s0 D g A) {m : Nat} {M : Nat → Nat} {C : Nat → Nat → Int32} {h : Nat → Int32} {ta lo : Int32} {f : Int32 × Int32 × Int32 × Int32} {σ : hp_S} {stk : List (Nat × Nat)} {H : Heap} (hC : hr_tR D g m M C h ta lo f σ stk H) : ∃ cell : Cell, H[m]? = some cell ∧ cell.vm.isStatics = false ∧ s.vm.findClass RX2 = some cell.cls := by
  obtain ⟨rk, at', -, hT⟩ := hC
  exact hr_recv X hr_i3 hT.1
theorem hr_tR.exc {D : va_G} {g : ClassId × ClassId × ClassId} {m : Nat} {M : Nat → Nat} {C : Nat → Nat → Int32} {h : Nat → Int32} {ta lo : Int32} {f : Int32 × Int32 × Int32 × Int32} {σ : hp_S} {stk : List (Nat × Nat)} {H : Heap} (hC : hr_tR D g m M C h ta lo f σ stk H) : hr_tR D g m M C h ta lo f (hp_exc σ) stk H := by
  unfold hr_tR at hC ⊢
  exact hC
set_option maxHeartbeats 4000000 in
theorem k_X2_writes (l : Launch) {s0 : State} {D : va_G} {g : ClassId × ClassId × ClassId} (Z : hr_Z s0 D g) {m : Nat} (h0 : s0.heap.size ≤ m) {M : Nat → Nat} {C : Nat → Nat → Int32} {h : Nat → Int32} {ta lo : Int32} {f : Int32 × Int32 × Int32 × Int32} {σ : hp_S} {stk : List (Nat × Nat)} (n : Int32) (hn : hp_n σ < 6000) {sz : Nat} : hr_C l yX2_writes (ws_ yX2_writes cX2_writes 2 none) (hr_L 0 0 0) s0 m 7 sz [.ref m, .int n] (fun H => hr_tR D g m M C h ta lo f σ stk H) (hr_Qv (fun H => hr_tR D g m M C h ta lo f (hp_wr n σ) stk H)) 0 0 := by
  refine hr_meth (by decide) (Nat.le_of_ble_eq_true rfl) Z h0 ?_
  intro p e s m0 below meth c ls X hr hlk hnm htab hadm hsz hC hl
  have hl : lv_has ls 2 [(0, _), (1, _)] := hl
  have hreg := hr_reg (lo := m) (n := 7) (sz := s.heap.size)
  have hS := hr_S0 (s := s) (lo := m) (n := 7)
  obtain ⟨rk, at', hk, hC⟩ := hC
  refine lv_aload_n X.ex X.by dX2_writes_0 rfl (lv_at hl 0 rfl) ?_
  refine hr_tget X hC 13 (by decide) rfl q424 dX2_writes_1 ?_
  refine lv_aload_n X.ex X.by dX2_writes_4 rfl (lv_at hl 0 rfl) ?_
  refine hr_tget X hC 12 (by decide) rfl q423 dX2_writes_5 ?_
  refine lv_iload_n X.ex X.by dX2_writes_8 rfl (lv_at hl 1 rfl) ?_
  refine hr_tjst X hC hS hreg rfl hn dX2_writes_9 (fun H locs hC hS _ => ?_)
  refine lv_aload_n X.ex X.by dX2_writes_10 rfl (lv_at hl 0 rfl) ?_
  refine lv_dup X.ex X.by dX2_writes_11 rfl ?_
  refine hr_tget X hC 12 (by decide) rfl q423 dX2_writes_12 ?_
  refine lv_iconst (v := 1) X.ex X.by dX2_writes_15 (by decide) ?_
  refine lv_iadd X.ex X.by dX2_writes_16 ?_
  refine hr_tput X hC hS hreg 12 (by decide) (Nat.le_of_ble_eq_true rfl) rfl rfl q423 dX2_writes_17 (fun H locs hC hS _ => ?_)
  rw [nI_1] at hC
  exact hr_vret X hr hlk hS ⟨rfl, rk, at', hk, hC⟩ (Nat.le_refl _) (Nat.le_refl _) dX2_writes_20
theorem c_X2_writes {p : Program} {l : Launch} {e : Env} {R : Room} {s : State} {m0 : MethodId} {args : Array Value} {below : List Frame} {meth : Method} {c : Code} {H : Heap} {locs : List Loc} {cells slots : Nat} {Q : State → Prop} {cc : ByteArray} {nL : Nat} {s0 : State} {D : va_G} {g : ClassId × ClassId × ClassId} {A : Nat → Prop} {pc : Nat} {ls : Array Slot} {rest : List Value} {m : Nat} (X : hr_X p s m0 args c cc nL RX2 s0 D g A) {M : Nat → Nat} {C : Nat → Nat → Int32} {h : Nat → Int32} {ta lo : Int32} {f : Int32 × Int32 × Int32 × Int32} {σ : hp_S} {stk : List (Nat × Nat)} {n : Int32} (hC : hr_tR D g m M C h ta lo f σ stk H) (hn : hp_n σ < 6000) (hS : va_S A s.heap H locs) (hreg : ∀ q : Nat, m ≤ q → q < m + 7 → A q) (hR : 1 ≤ R.frames ∧ 40 ≤ R.locals) (hf : cells ≤ R.cells ∧ slots ≤ R.slots) (hsize : ls.size = nL) (hW : (rest.map fun v => v.category).sum ≤ 8) (hdg : decode cc pc = .ok (.invokevirtual 52, 3))
    (kk : ∀ (H1 : Heap) (locs1 : List Loc), hr_tR D g m M C h ta lo f (hp_wr n σ) stk H1 → va_S A s.heap H1 locs1 → W p l e R s m0 args below meth c H1 locs1 cells slots Q (F0 m0 (pc + 3) ls (rest))) : W p l e R s m0 args below meth c H locs cells slots Q (F0 m0 pc ls (.int n :: .ref m :: rest)) :=
  hr_callVv X (k_X2_writes l X.2.1 (X.2.2.2.1 m (hreg m (Nat.le_refl m) (by omega))) n hn) v_X2_writes (lw_meth q503) hS hreg (hr_tR.recv X hC) hC rfl rfl (hr_lR (by decide) hR) hsize rfl hW hf hdg (fun H1 locs1 hP hS9 _ => kk H1 locs1 hP hS9)
set_option maxHeartbeats 4000000 in
theorem k_X2_fails (l : Launch) {s0 : State} {D : va_G} {g : ClassId × ClassId × ClassId} (Z : hr_Z s0 D g) {m : Nat} (h0 : s0.heap.size ≤ m) {M : Nat → Nat} {C : Nat → Nat → Int32} {h : Nat → Int32} {ta lo : Int32} {f : Int32 × Int32 × Int32 × Int32} {σ : hp_S} {stk : List (Nat × Nat)} (n : Int32)  {sz : Nat} : hr_C l yX2_fails (ws_ yX2_fails cX2_fails 2 none) (hr_L 0 0 0) s0 m 7 sz [.ref m, .int n] (fun H => hr_tR D g m M C h ta lo f σ stk H) (hr_Qv (fun H => hr_tR D g m M C h ta lo (n, 0, n, -1) σ stk H)) 0 0 := by
  refine hr_meth (by decide) (Nat.le_of_ble_eq_true rfl) Z h0 ?_
  intro p e s m0 below meth c ls X hr hlk hnm htab hadm hsz hC hl
  have hl : lv_has ls 2 [(0, _), (1, _)] := hl
  have hreg := hr_reg (lo := m) (n := 7) (sz := s.heap.size)
  have hS := hr_S0 (s := s) (lo := m) (n := 7)
  obtain ⟨rk, at', hk, hC⟩ := hC
  refine lv_aload_n X.ex X.by dX2_fails_0 rfl (lv_at hl 0 rfl) ?_
  refine lv_iload_n X.ex X.by dX2_fails_1 rfl (lv_at hl 1 rfl) ?_
  refine hr_tput X hC hS hreg 6 (by decide) (Nat.le_of_ble_eq_true rfl) rfl rfl q417 dX2_fails_2 (fun H locs hC hS _ => ?_)
  refine lv_aload_n X.ex X.by dX2_fails_5 rfl (lv_at hl 0 rfl) ?_
  refine lv_iconst (v := 0) X.ex X.by dX2_fails_6 (by decide) ?_
  refine hr_tput X hC hS hreg 7 (by decide) (Nat.le_of_ble_eq_true rfl) rfl rfl q418 dX2_fails_7 (fun H locs hC hS _ => ?_)
  refine lv_aload_n X.ex X.by dX2_fails_10 rfl (lv_at hl 0 rfl) ?_
  refine lv_iload_n X.ex X.by dX2_fails_11 rfl (lv_at hl 1 rfl) ?_
  refine hr_tput X hC hS hreg 8 (by decide) (Nat.le_of_ble_eq_true rfl) rfl rfl q419 dX2_fails_12 (fun H locs hC hS _ => ?_)
  refine lv_aload_n X.ex X.by dX2_fails_15 rfl (lv_at hl 0 rfl) ?_
  refine lv_iconst (v := (-1)) X.ex X.by dX2_fails_16 (by decide) ?_
  refine hr_tput X hC hS hreg 9 (by decide) (Nat.le_of_ble_eq_true rfl) rfl rfl q420 dX2_fails_17 (fun H locs hC hS _ => ?_)
  exact hr_vret X hr hlk hS ⟨rfl, rk, at', hk, hC⟩ (Nat.le_refl _) (Nat.le_refl _) dX2_fails_20
theorem c_X2_fails {p : Program} {l : Launch} {e : Env} {R : Room} {s : State} {m0 : MethodId} {args : Array Value} {below : List Frame} {meth : Method} {c : Code} {H : Heap} {locs : List Loc} {cells slots : Nat} {Q : State → Prop} {cc : ByteArray} {nL : Nat} {s0 : State} {D : va_G} {g : ClassId × ClassId × ClassId} {A : Nat → Prop} {pc : Nat} {ls : Array Slot} {rest : List Value} {m : Nat} (X : hr_X p s m0 args c cc nL RX2 s0 D g A) {M : Nat → Nat} {C : Nat → Nat → Int32} {h : Nat → Int32} {ta lo : Int32} {f : Int32 × Int32 × Int32 × Int32} {σ : hp_S} {stk : List (Nat × Nat)} {n : Int32} (hC : hr_tR D g m M C h ta lo f σ stk H)  (hS : va_S A s.heap H locs) (hreg : ∀ q : Nat, m ≤ q → q < m + 7 → A q) (hR : 1 ≤ R.frames ∧ 40 ≤ R.locals) (hf : cells ≤ R.cells ∧ slots ≤ R.slots) (hsize : ls.size = nL) (hW : (rest.map fun v => v.category).sum ≤ 8) (hdg : decode cc pc = .ok (.invokevirtual 75, 3))
    (kk : ∀ (H1 : Heap) (locs1 : List Loc), hr_tR D g m M C h ta lo (n, 0, n, -1) σ stk H1 → va_S A s.heap H1 locs1 → W p l e R s m0 args below meth c H1 locs1 cells slots Q (F0 m0 (pc + 3) ls (rest))) : W p l e R s m0 args below meth c H locs cells slots Q (F0 m0 pc ls (.int n :: .ref m :: rest)) :=
  hr_callVv X (k_X2_fails l X.2.1 (X.2.2.2.1 m (hreg m (Nat.le_refl m) (by omega))) n ) v_X2_fails (lw_meth q495) hS hreg (hr_tR.recv X hC) hC rfl rfl (hr_lR (by decide) hR) hsize rfl hW hf hdg (fun H1 locs1 hP hS9 _ => kk H1 locs1 hP hS9)
set_option maxHeartbeats 4000000 in
theorem k_X2_closes (l : Launch) {s0 : State} {D : va_G} {g : ClassId × ClassId × ClassId} (Z : hr_Z s0 D g) {m : Nat} (h0 : s0.heap.size ≤ m) {M : Nat → Nat} {C : Nat → Nat → Int32} {h : Nat → Int32} {ta lo : Int32} {f : Int32 × Int32 × Int32 × Int32} {σ : hp_S} {stk : List (Nat × Nat)} (hn : hp_n σ + 2 ≤ 6000) {sz : Nat} : hr_C l yX2_closes (ws_ yX2_closes cX2_closes 1 none) (hr_L 1 0 0) s0 m 7 sz [.ref m] (fun H => hr_tR D g m M C h ta lo f σ stk H) (hr_Qv (fun H => hr_tR D g m M C h ta lo f (hp_cl σ) stk H)) 0 0 := by
  refine hr_meth (by decide) (Nat.le_of_ble_eq_true rfl) Z h0 ?_
  intro p e s m0 below meth c ls X hr hlk hnm htab hadm hsz hC hl
  have hl : lv_has ls 1 [(0, _)] := hl
  have hreg := hr_reg (lo := m) (n := 7) (sz := s.heap.size)
  have hS := hr_S0 (s := s) (lo := m) (n := 7)
  refine lv_aload_n X.ex X.by dX2_closes_0 rfl (lv_at hl 0 rfl) ?_
  refine lv_bipush (v := (-3)) X.ex X.by dX2_closes_1 (by decide) ?_
  refine c_X2_writes X hC (by omega) hS hreg ⟨Nat.le_of_ble_eq_true rfl, Nat.le_of_ble_eq_true rfl⟩ ⟨Nat.zero_le _, Nat.zero_le _⟩ hl.1 (Nat.le_of_ble_eq_true rfl) dX2_closes_3 (fun H locs hC hS => ?_)
  refine lv_aload_n X.ex X.by dX2_closes_6 rfl (lv_at hl 0 rfl) ?_
  refine lv_bipush (v := (-2)) X.ex X.by dX2_closes_7 (by decide) ?_
  refine c_X2_writes X hC (by have e : hp_n (hp_wr (-3) σ) = hp_n σ + 1 := rfl; omega) hS hreg ⟨Nat.le_of_ble_eq_true rfl, Nat.le_of_ble_eq_true rfl⟩ ⟨Nat.zero_le _, Nat.zero_le _⟩ hl.1 (Nat.le_of_ble_eq_true rfl) dX2_closes_9 (fun H locs hC hS => ?_)
  exact hr_vret X hr hlk hS ⟨rfl, hC⟩ (Nat.le_refl _) (Nat.le_refl _) dX2_closes_12
theorem c_X2_closes {p : Program} {l : Launch} {e : Env} {R : Room} {s : State} {m0 : MethodId} {args : Array Value} {below : List Frame} {meth : Method} {c : Code} {H : Heap} {locs : List Loc} {cells slots : Nat} {Q : State → Prop} {cc : ByteArray} {nL : Nat} {s0 : State} {D : va_G} {g : ClassId × ClassId × ClassId} {A : Nat → Prop} {pc : Nat} {ls : Array Slot} {rest : List Value} {m : Nat} (X : hr_X p s m0 args c cc nL RX2 s0 D g A) {M : Nat → Nat} {C : Nat → Nat → Int32} {h : Nat → Int32} {ta lo : Int32} {f : Int32 × Int32 × Int32 × Int32} {σ : hp_S} {stk : List (Nat × Nat)} (hC : hr_tR D g m M C h ta lo f σ stk H) (hn : hp_n σ + 2 ≤ 6000) (hS : va_S A s.heap H locs) (hreg : ∀ q : Nat, m ≤ q → q < m + 7 → A q) (hR : 2 ≤ R.frames ∧ 80 ≤ R.locals) (hf : cells ≤ R.cells ∧ slots ≤ R.slots) (hsize : ls.size = nL) (hW : (rest.map fun v => v.category).sum ≤ 8) (hdg : decode cc pc = .ok (.invokevirtual 56, 3))
    (kk : ∀ (H1 : Heap) (locs1 : List Loc), hr_tR D g m M C h ta lo f (hp_cl σ) stk H1 → va_S A s.heap H1 locs1 → W p l e R s m0 args below meth c H1 locs1 cells slots Q (F0 m0 (pc + 3) ls (rest))) : W p l e R s m0 args below meth c H locs cells slots Q (F0 m0 pc ls (.ref m :: rest)) :=
  hr_callVv X (k_X2_closes l X.2.1 (X.2.2.2.1 m (hreg m (Nat.le_refl m) (by omega)))  hn) v_X2_closes (lw_meth q519) hS hreg (hr_tR.recv X hC) hC rfl rfl (hr_lR (by decide) hR) hsize rfl hW hf hdg (fun H1 locs1 hP hS9 _ => kk H1 locs1 hP hS9)
set_option maxHeartbeats 4000000 in
theorem k_X2_cellAtHand (l : Launch) {s0 : State} {D : va_G} {g : ClassId × ClassId × ClassId} (Z : hr_Z s0 D g) {m : Nat} (h0 : s0.heap.size ≤ m) {M : Nat → Nat} {C : Nat → Nat → Int32} {h : Nat → Int32} {ta lo : Int32} {f : Int32 × Int32 × Int32 × Int32} {σ : hp_S} {r k : Nat} {stk : List (Nat × Nat)} (hr8 : r < 8) (hk12 : k < 12) (hd : stk.length < 6) {sz : Nat} : hr_C l yX2_cellAtHand (ws_ yX2_cellAtHand cX2_cellAtHand 1 (some .int)) (hr_L 0 0 0) s0 m 7 sz [.ref m] (fun H => hr_tR D g m M C h ta lo f σ ((r, k) :: stk) H) (hr_Qi (fun v H => v = C r k ∧ hr_tR D g m M C h ta lo f σ ((r, k) :: stk) H)) 0 0 := by
  refine hr_meth (by decide) (Nat.le_of_ble_eq_true rfl) Z h0 ?_
  intro p e s m0 below meth c ls X hr hlk hnm htab hadm hsz hC hl
  have hl : lv_has ls 1 [(0, _)] := hl
  have hreg := hr_reg (lo := m) (n := 7) (sz := s.heap.size)
  have hS := hr_S0 (s := s) (lo := m) (n := 7)
  obtain ⟨rk, at', hk, hC⟩ := hC
  refine lv_aload_n X.ex X.by dX2_cellAtHand_0 rfl (lv_at hl 0 rfl) ?_
  refine hr_tget X hC 1 (by decide) rfl q412 dX2_cellAtHand_1 ?_
  refine lv_bipush (v := 12) X.ex X.by dX2_cellAtHand_4 (by decide) ?_
  refine lv_aload_n X.ex X.by dX2_cellAtHand_6 rfl (lv_at hl 0 rfl) ?_
  refine hr_tget X hC 15 (by decide) rfl q426 dX2_cellAtHand_7 ?_
  refine lv_aload_n X.ex X.by dX2_cellAtHand_10 rfl (lv_at hl 0 rfl) ?_
  refine hr_tget X hC 14 (by decide) rfl q425 dX2_cellAtHand_11 ?_
  refine lv_iconst (v := 1) X.ex X.by dX2_cellAtHand_14 (by decide) ?_
  refine lv_isub X.ex X.by dX2_cellAtHand_15 ?_
  refine hr_iald X hC.2.2.2.2.2.1 (by show nI (stk.length + 1) - 1 = nI stk.length; exact nI_pred _) hd (by decide) dX2_cellAtHand_16 ?_
  refine lv_imul X.ex X.by dX2_cellAtHand_17 ?_
  refine lv_aload_n X.ex X.by dX2_cellAtHand_18 rfl (lv_at hl 0 rfl) ?_
  refine hr_tget X hC 16 (by decide) rfl q427 dX2_cellAtHand_19 ?_
  refine lv_aload_n X.ex X.by dX2_cellAtHand_22 rfl (lv_at hl 0 rfl) ?_
  refine hr_tget X hC 14 (by decide) rfl q425 dX2_cellAtHand_23 ?_
  refine lv_iconst (v := 1) X.ex X.by dX2_cellAtHand_26 (by decide) ?_
  refine lv_isub X.ex X.by dX2_cellAtHand_27 ?_
  refine hr_iald X hC.2.2.2.2.2.2 (by show nI (stk.length + 1) - 1 = nI stk.length; exact nI_pred _) hd (by decide) dX2_cellAtHand_28 ?_
  refine lv_iadd X.ex X.by dX2_cellAtHand_29 ?_
  refine hr_iald X hC.2.2.1 (j := 12 * r + k) (by rw [hk.1, hk.2.1]; show nI 12 * nI r + nI k = _; rw [pk_mul, nI_add]) (by omega) (by decide) dX2_cellAtHand_30 ?_
  have e1 : (12 * r + k) / 12 = r := by omega
  have e2 : (12 * r + k) % 12 = k := by omega
  rw [e1, e2]
  exact hr_iret X hr hlk hS ⟨_, rfl, rfl, rk, at', hk, hC⟩ (Nat.le_refl _) (Nat.le_refl _) dX2_cellAtHand_31
theorem c_X2_cellAtHand {p : Program} {l : Launch} {e : Env} {R : Room} {s : State} {m0 : MethodId} {args : Array Value} {below : List Frame} {meth : Method} {c : Code} {H : Heap} {locs : List Loc} {cells slots : Nat} {Q : State → Prop} {cc : ByteArray} {nL : Nat} {s0 : State} {D : va_G} {g : ClassId × ClassId × ClassId} {A : Nat → Prop} {pc : Nat} {ls : Array Slot} {rest : List Value} {m : Nat} (X : hr_X p s m0 args c cc nL RX2 s0 D g A) {M : Nat → Nat} {C : Nat → Nat → Int32} {h : Nat → Int32} {ta lo : Int32} {f : Int32 × Int32 × Int32 × Int32} {σ : hp_S} {r k : Nat} {stk : List (Nat × Nat)} (hC : hr_tR D g m M C h ta lo f σ ((r, k) :: stk) H) (hr8 : r < 8) (hk12 : k < 12) (hd : stk.length < 6) (hS : va_S A s.heap H locs) (hreg : ∀ q : Nat, m ≤ q → q < m + 7 → A q) (hR : 1 ≤ R.frames ∧ 40 ≤ R.locals) (hf : cells ≤ R.cells ∧ slots ≤ R.slots) (hsize : ls.size = nL) (hW : (rest.map fun v => v.category).sum ≤ 8) (hdg : decode cc pc = .ok (.invokevirtual 68, 3))
    (kk : ∀ (v : Int32) (H1 : Heap) (locs1 : List Loc), v = C r k ∧ hr_tR D g m M C h ta lo f σ ((r, k) :: stk) H1 → va_S A s.heap H1 locs1 → W p l e R s m0 args below meth c H1 locs1 cells slots Q (F0 m0 (pc + 3) ls (.int v :: rest))) : W p l e R s m0 args below meth c H locs cells slots Q (F0 m0 pc ls (.ref m :: rest)) :=
  hr_callVi X (k_X2_cellAtHand l X.2.1 (X.2.2.2.1 m (hreg m (Nat.le_refl m) (by omega)))  hr8 hk12 hd) v_X2_cellAtHand (lw_meth q535) hS hreg (hr_tR.recv X hC) hC rfl rfl (hr_lR (by decide) hR) hsize rfl hW hf hdg (fun v H1 locs1 hP hS9 _ => kk v H1 locs1 hP hS9)
set_option maxHeartbeats 4000000 in
theorem k_X2_passes (l : Launch) {s0 : State} {D : va_G} {g : ClassId × ClassId × ClassId} (Z : hr_Z s0 D g) {m : Nat} (h0 : s0.heap.size ≤ m) {M : Nat → Nat} {C : Nat → Nat → Int32} {h : Nat → Int32} {ta lo : Int32} {f : Int32 × Int32 × Int32 × Int32} {σ : hp_S} {r k : Nat} {stk : List (Nat × Nat)} (hd : stk.length < 6) (hn : hp_n σ + 3 ≤ 6000) {sz : Nat} : hr_C l yX2_passes (ws_ yX2_passes cX2_passes 1 none) (hr_L 2 0 0) s0 m 7 sz [.ref m] (fun H => hr_tR D g m M C h ta lo f σ ((r, k) :: stk) H) (hr_Qv (fun H => hr_tR D g m M C h ta lo f (hp_wr 5 (hp_cl σ)) ((r, k + 1) :: stk) H)) 0 0 := by
  refine hr_meth (by decide) (Nat.le_of_ble_eq_true rfl) Z h0 ?_
  intro p e s m0 below meth c ls X hr hlk hnm htab hadm hsz hC hl
  have hl : lv_has ls 1 [(0, _)] := hl
  have hreg := hr_reg (lo := m) (n := 7) (sz := s.heap.size)
  have hS := hr_S0 (s := s) (lo := m) (n := 7)
  refine lv_aload_n X.ex X.by dX2_passes_0 rfl (lv_at hl 0 rfl) ?_
  refine c_X2_closes X hC (by omega) hS hreg ⟨Nat.le_of_ble_eq_true rfl, Nat.le_of_ble_eq_true rfl⟩ ⟨Nat.zero_le _, Nat.zero_le _⟩ hl.1 (Nat.le_of_ble_eq_true rfl) dX2_passes_1 (fun H locs hC hS => ?_)
  refine lv_aload_n X.ex X.by dX2_passes_4 rfl (lv_at hl 0 rfl) ?_
  refine lv_iconst (v := 5) X.ex X.by dX2_passes_5 (by decide) ?_
  refine c_X2_writes X hC (by have e : hp_n (hp_cl σ) = hp_n σ + 2 := rfl; omega) hS hreg ⟨Nat.le_of_ble_eq_true rfl, Nat.le_of_ble_eq_true rfl⟩ ⟨Nat.zero_le _, Nat.zero_le _⟩ hl.1 (Nat.le_of_ble_eq_true rfl) dX2_passes_6 (fun H locs hC hS => ?_)
  obtain ⟨rk, at', hk, hC⟩ := hC
  refine lv_aload_n X.ex X.by dX2_passes_9 rfl (lv_at hl 0 rfl) ?_
  refine hr_tget X hC 16 (by decide) rfl q427 dX2_passes_10 ?_
  refine lv_aload_n X.ex X.by dX2_passes_13 rfl (lv_at hl 0 rfl) ?_
  refine hr_tget X hC 14 (by decide) rfl q425 dX2_passes_14 ?_
  refine lv_iconst (v := 1) X.ex X.by dX2_passes_17 (by decide) ?_
  refine lv_isub X.ex X.by dX2_passes_18 ?_
  refine lv_dup2_11 X.ex X.by dX2_passes_19 rfl rfl ?_
  refine hr_iald X hC.2.2.2.2.2.2 (by show nI (stk.length + 1) - 1 = nI stk.length; exact nI_pred _) hd (by decide) dX2_passes_20 ?_
  refine lv_iconst (v := 1) X.ex X.by dX2_passes_21 (by decide) ?_
  refine lv_iadd X.ex X.by dX2_passes_22 ?_
  refine hr_tast X hC hS hreg (by show nI (stk.length + 1) - 1 = nI stk.length; exact nI_pred _) hd dX2_passes_23 (fun H locs hC hS _ => ?_)
  rw [hk.2.1, nI_1] at hC
  exact hr_vret X hr hlk hS ⟨rfl, rk, _, hk.at (k + 1), hC⟩ (Nat.le_refl _) (Nat.le_refl _) dX2_passes_24
theorem c_X2_passes {p : Program} {l : Launch} {e : Env} {R : Room} {s : State} {m0 : MethodId} {args : Array Value} {below : List Frame} {meth : Method} {c : Code} {H : Heap} {locs : List Loc} {cells slots : Nat} {Q : State → Prop} {cc : ByteArray} {nL : Nat} {s0 : State} {D : va_G} {g : ClassId × ClassId × ClassId} {A : Nat → Prop} {pc : Nat} {ls : Array Slot} {rest : List Value} {m : Nat} (X : hr_X p s m0 args c cc nL RX2 s0 D g A) {M : Nat → Nat} {C : Nat → Nat → Int32} {h : Nat → Int32} {ta lo : Int32} {f : Int32 × Int32 × Int32 × Int32} {σ : hp_S} {r k : Nat} {stk : List (Nat × Nat)} (hC : hr_tR D g m M C h ta lo f σ ((r, k) :: stk) H) (hd : stk.length < 6) (hn : hp_n σ + 3 ≤ 6000) (hS : va_S A s.heap H locs) (hreg : ∀ q : Nat, m ≤ q → q < m + 7 → A q) (hR : 3 ≤ R.frames ∧ 120 ≤ R.locals) (hf : cells ≤ R.cells ∧ slots ≤ R.slots) (hsize : ls.size = nL) (hW : (rest.map fun v => v.category).sum ≤ 8) (hdg : decode cc pc = .ok (.invokevirtual 82, 3))
    (kk : ∀ (H1 : Heap) (locs1 : List Loc), hr_tR D g m M C h ta lo f (hp_wr 5 (hp_cl σ)) ((r, k + 1) :: stk) H1 → va_S A s.heap H1 locs1 → W p l e R s m0 args below meth c H1 locs1 cells slots Q (F0 m0 (pc + 3) ls (rest))) : W p l e R s m0 args below meth c H locs cells slots Q (F0 m0 pc ls (.ref m :: rest)) :=
  hr_callVv X (k_X2_passes l X.2.1 (X.2.2.2.1 m (hreg m (Nat.le_refl m) (by omega)))  hd hn) v_X2_passes (lw_meth q515) hS hreg (hr_tR.recv X hC) hC rfl rfl (hr_lR (by decide) hR) hsize rfl hW hf hdg (fun H1 locs1 hP hS9 _ => kk H1 locs1 hP hS9)
set_option maxHeartbeats 4000000 in
theorem k_X2_takes (l : Launch) {s0 : State} {D : va_G} {g : ClassId × ClassId × ClassId} (Z : hr_Z s0 D g) {m : Nat} (h0 : s0.heap.size ≤ m) {M : Nat → Nat} {C : Nat → Nat → Int32} {h : Nat → Int32} {ta lo : Int32} {x : hp_X} {σ : hp_S} {r k : Nat} {stk : List (Nat × Nat)} (hx : hp_xv x) (hr8 : r < 8) (hk12 : k < 12) (hd : stk.length < 6) (hn : hp_n σ < 6000) {sz : Nat} : hr_C l yX2_takes (ws_ yX2_takes cX2_takes 2 (some .boolean)) (hr_L 1 0 0) s0 m 7 sz [.ref m] (fun H => hr_tR D g m M C h ta lo (hp_f x) σ ((r, k) :: stk) H) (hr_Qi (fun v H => ((x.1 = 7 ∨ C r k < 2000) ∧ v = 0 ∧ hr_tR D g m M C h ta lo (hp_f x) σ ((r, k) :: stk) H) ∨ (¬ (x.1 = 7 ∨ C r k < 2000) ∧ C r k < 3000 ∧ v = 0 ∧ hr_tR D g m M C h ta lo (hp_f (x.1, (C r k - 2000).toNatClampNeg :: x.2)) σ ((r, k) :: stk) H) ∨ (¬ (x.1 = 7 ∨ C r k < 2000) ∧ ¬ C r k < 3000 ∧ v = 1 ∧ hr_tR D g m M C h ta lo (hp_fo none) (hp_add (nI (hp_code x)) (hp_wr 7 σ)) ((r, k) :: stk) H))) 0 0 := by
  refine hr_meth (by decide) (Nat.le_of_ble_eq_true rfl) Z h0 ?_
  intro p e s m0 below meth c ls X hr hlk hnm htab hadm hsz hC hl
  have hl : lv_has ls 2 [(0, _)] := hl
  have hreg := hr_reg (lo := m) (n := 7) (sz := s.heap.size)
  have hS := hr_S0 (s := s) (lo := m) (n := 7)
  refine lv_aload_n X.ex X.by dX2_takes_0 rfl (lv_at hl 0 rfl) ?_
  refine c_X2_cellAtHand X hC hr8 hk12 hd hS hreg ⟨Nat.le_of_ble_eq_true rfl, Nat.le_of_ble_eq_true rfl⟩ ⟨Nat.zero_le _, Nat.zero_le _⟩ hl.1 (Nat.le_of_ble_eq_true rfl) dX2_takes_1 (fun r_1 H locs hC hS => ?_)
  obtain ⟨ev, rk, at', hk, hC⟩ := hC
  subst ev
  refine lv_istore_n X.ex X.by dX2_takes_4 rfl hl (by decide) rfl (fun ls hl => ?_)
  have hl : lv_has ls 2 [(1, _), (0, _)] := hl
  refine lv_aload_n X.ex X.by dX2_takes_5 rfl (lv_at hl 1 rfl) ?_
  refine hr_tget X hC 6 (by decide) rfl q417 dX2_takes_6 ?_
  refine lv_bipush (v := 7) X.ex X.by dX2_takes_9 (by decide) ?_
  refine lv_icmp_eq (tgt := 21) X.ex X.by dX2_takes_11 (by decide) (fun c_11 => ?_) (fun c_11 => ?_)
  · have c7 : x.1 = 7 := (hp_code7 hx).mp c_11
    refine lv_iconst (v := 0) X.ex X.by dX2_takes_21 (by decide) ?_
    first
      | exact hr_zret X hr hlk hS (by decide) ⟨_, rfl, Or.inl ⟨Or.inl c7, rfl, rk, at', hk, hC⟩⟩ (Nat.le_refl _) (Nat.le_refl _) dX2_takes_22
      | exact hr_zret X hr hlk hS (by decide) ⟨_, rfl, Or.inl ⟨Or.inr (Int32.not_le.mp c_18), rfl, rk, at', hk, hC⟩⟩ (Nat.le_refl _) (Nat.le_refl _) dX2_takes_22
  · have c7 : ¬ x.1 = 7 := fun z => c_11 ((hp_code7 hx).mpr z)
    refine lv_iload_n X.ex X.by dX2_takes_14 rfl (lv_at hl 0 rfl) ?_
    refine lv_sipush (v := 2000) X.ex X.by dX2_takes_15 (by decide) ?_
    refine lv_icmp_ge (tgt := 23) X.ex X.by dX2_takes_18 (by decide) (fun c_18 => ?_) (fun c_18 => ?_)
    · refine lv_iload_n X.ex X.by dX2_takes_23 rfl (lv_at hl 0 rfl) ?_
      refine lv_sipush (v := 3000) X.ex X.by dX2_takes_24 (by decide) ?_
      refine lv_icmp_ge (tgt := 56) X.ex X.by dX2_takes_27 (by decide) (fun c_27 => ?_) (fun c_27 => ?_)
      · refine lv_aload_n X.ex X.by dX2_takes_56 rfl (lv_at hl 1 rfl) ?_
        refine lv_bipush (v := 7) X.ex X.by dX2_takes_57 (by decide) ?_
        have hC : hr_tR D g m M C h ta lo (hp_f x) σ ((r, k) :: stk) H := ⟨rk, at', hk, hC⟩
        refine c_X2_writes X hC hn hS hreg ⟨Nat.le_of_ble_eq_true rfl, Nat.le_of_ble_eq_true rfl⟩ ⟨Nat.zero_le _, Nat.zero_le _⟩ hl.1 (Nat.le_of_ble_eq_true rfl) dX2_takes_59 (fun H locs hC hS => ?_)
        obtain ⟨rk, at', hk, hC⟩ := hC
        refine lv_aload_n X.ex X.by dX2_takes_62 rfl (lv_at hl 1 rfl) ?_
        refine lv_dup X.ex X.by dX2_takes_63 rfl ?_
        refine hr_tget X hC 5 (by decide) rfl q416 dX2_takes_64 ?_
        refine lv_aload_n X.ex X.by dX2_takes_67 rfl (lv_at hl 1 rfl) ?_
        refine hr_tget X hC 6 (by decide) rfl q417 dX2_takes_68 ?_
        refine lv_iadd X.ex X.by dX2_takes_71 ?_
        refine hr_tput X hC hS hreg 5 (by decide) (Nat.le_of_ble_eq_true rfl) rfl rfl q416 dX2_takes_72 (fun H locs hC hS _ => ?_)
        refine lv_aload_n X.ex X.by dX2_takes_75 rfl (lv_at hl 1 rfl) ?_
        refine lv_iconst (v := 0) X.ex X.by dX2_takes_76 (by decide) ?_
        have hC : hr_tR D g m M C h ta lo (hp_f x) (hp_add (nI (hp_code x)) (hp_wr 7 σ)) ((r, k) :: stk) H := ⟨rk, at', hk, hC⟩
        refine c_X2_fails X hC  hS hreg ⟨Nat.le_of_ble_eq_true rfl, Nat.le_of_ble_eq_true rfl⟩ ⟨Nat.zero_le _, Nat.zero_le _⟩ hl.1 (Nat.le_of_ble_eq_true rfl) dX2_takes_77 (fun H locs hC hS => ?_)
        refine lv_iconst (v := 1) X.ex X.by dX2_takes_80 (by decide) ?_
        exact hr_zret X hr hlk hS (by decide) ⟨_, rfl, Or.inr (Or.inr ⟨fun z => by rcases z with z | z; exact c7 z; exact absurd c_18 (Int32.not_le.mpr z), Int32.not_lt.mpr c_27, rfl, hC⟩)⟩ (Nat.le_refl _) (Nat.le_refl _) dX2_takes_81
      · refine lv_aload_n X.ex X.by dX2_takes_30 rfl (lv_at hl 1 rfl) ?_
        refine lv_dup X.ex X.by dX2_takes_31 rfl ?_
        refine hr_tget X hC 7 (by decide) rfl q418 dX2_takes_32 ?_
        refine lv_iconst (v := 1) X.ex X.by dX2_takes_35 (by decide) ?_
        refine lv_iadd X.ex X.by dX2_takes_36 ?_
        refine hr_tput X hC hS hreg 7 (by decide) (Nat.le_of_ble_eq_true rfl) rfl rfl q418 dX2_takes_37 (fun H locs hC hS _ => ?_)
        refine lv_aload_n X.ex X.by dX2_takes_40 rfl (lv_at hl 1 rfl) ?_
        refine lv_iconst (v := 5) X.ex X.by dX2_takes_41 (by decide) ?_
        refine hr_tput X hC hS hreg 6 (by decide) (Nat.le_of_ble_eq_true rfl) rfl rfl q417 dX2_takes_42 (fun H locs hC hS _ => ?_)
        refine lv_aload_n X.ex X.by dX2_takes_45 rfl (lv_at hl 1 rfl) ?_
        refine lv_iload_n X.ex X.by dX2_takes_46 rfl (lv_at hl 0 rfl) ?_
        refine lv_sipush (v := 2000) X.ex X.by dX2_takes_47 (by decide) ?_
        refine lv_isub X.ex X.by dX2_takes_50 ?_
        refine hr_tput X hC hS hreg 9 (by decide) (Nat.le_of_ble_eq_true rfl) rfl rfl q420 dX2_takes_51 (fun H locs hC hS _ => ?_)
        refine lv_iconst (v := 0) X.ex X.by dX2_takes_54 (by decide) ?_
        have hge : (2000 : Int32) ≤ C r k := c_18
        have hlt : C r k < 3000 := Int32.not_le.mp c_27
        have e5 : nI ((C r k) - 2000).toNatClampNeg = C r k - 2000 := hp_nI (by
          rw [hp_le] at hge ⊢
          rw [hp_lt] at hlt
          have e2 : (2000 : Int32).toInt = 2000 := by decide
          have e3 : (3000 : Int32).toInt = 3000 := by decide
          have e0 : (0 : Int32).toInt = 0 := by decide
          rw [hp_sub_int (by omega) (by omega)]
          omega)
        have e6 : (hp_f x).2.1 + 1 = nI (x.2.length + 1) := nI_1 _
        rw [e6, ← e5] at hC
        exact hr_zret X hr hlk hS (by decide) ⟨_, rfl, Or.inr (Or.inl ⟨fun z => by rcases z with z | z; exact c7 z; exact absurd c_18 (Int32.not_le.mpr z), hlt, rfl, rk, at', hk, hC⟩)⟩ (Nat.le_refl _) (Nat.le_refl _) dX2_takes_55
    · refine lv_iconst (v := 0) X.ex X.by dX2_takes_21 (by decide) ?_
      first
        | exact hr_zret X hr hlk hS (by decide) ⟨_, rfl, Or.inl ⟨Or.inl c7, rfl, rk, at', hk, hC⟩⟩ (Nat.le_refl _) (Nat.le_refl _) dX2_takes_22
        | exact hr_zret X hr hlk hS (by decide) ⟨_, rfl, Or.inl ⟨Or.inr (Int32.not_le.mp c_18), rfl, rk, at', hk, hC⟩⟩ (Nat.le_refl _) (Nat.le_refl _) dX2_takes_22
theorem c_X2_takes {p : Program} {l : Launch} {e : Env} {R : Room} {s : State} {m0 : MethodId} {args : Array Value} {below : List Frame} {meth : Method} {c : Code} {H : Heap} {locs : List Loc} {cells slots : Nat} {Q : State → Prop} {cc : ByteArray} {nL : Nat} {s0 : State} {D : va_G} {g : ClassId × ClassId × ClassId} {A : Nat → Prop} {pc : Nat} {ls : Array Slot} {rest : List Value} {m : Nat} (X : hr_X p s m0 args c cc nL RX2 s0 D g A) {M : Nat → Nat} {C : Nat → Nat → Int32} {h : Nat → Int32} {ta lo : Int32} {x : hp_X} {σ : hp_S} {r k : Nat} {stk : List (Nat × Nat)} (hC : hr_tR D g m M C h ta lo (hp_f x) σ ((r, k) :: stk) H) (hx : hp_xv x) (hr8 : r < 8) (hk12 : k < 12) (hd : stk.length < 6) (hn : hp_n σ < 6000) (hS : va_S A s.heap H locs) (hreg : ∀ q : Nat, m ≤ q → q < m + 7 → A q) (hR : 2 ≤ R.frames ∧ 80 ≤ R.locals) (hf : cells ≤ R.cells ∧ slots ≤ R.slots) (hsize : ls.size = nL) (hW : (rest.map fun v => v.category).sum ≤ 8) (hdg : decode cc pc = .ok (.invokevirtual 78, 3))
    (kk : ∀ (v : Int32) (H1 : Heap) (locs1 : List Loc), ((x.1 = 7 ∨ C r k < 2000) ∧ v = 0 ∧ hr_tR D g m M C h ta lo (hp_f x) σ ((r, k) :: stk) H1) ∨ (¬ (x.1 = 7 ∨ C r k < 2000) ∧ C r k < 3000 ∧ v = 0 ∧ hr_tR D g m M C h ta lo (hp_f (x.1, (C r k - 2000).toNatClampNeg :: x.2)) σ ((r, k) :: stk) H1) ∨ (¬ (x.1 = 7 ∨ C r k < 2000) ∧ ¬ C r k < 3000 ∧ v = 1 ∧ hr_tR D g m M C h ta lo (hp_fo none) (hp_add (nI (hp_code x)) (hp_wr 7 σ)) ((r, k) :: stk) H1) → va_S A s.heap H1 locs1 → W p l e R s m0 args below meth c H1 locs1 cells slots Q (F0 m0 (pc + 3) ls (.int v :: rest))) : W p l e R s m0 args below meth c H locs cells slots Q (F0 m0 pc ls (.ref m :: rest)) :=
  hr_callVi X (k_X2_takes l X.2.1 (X.2.2.2.1 m (hreg m (Nat.le_refl m) (by omega)))  hx hr8 hk12 hd hn) v_X2_takes (lw_meth q531) hS hreg (hr_tR.recv X hC) hC rfl rfl (hr_lR (by decide) hR) hsize rfl hW hf hdg (fun v H1 locs1 hP hS9 _ => kk v H1 locs1 hP hS9)
set_option maxHeartbeats 4000000 in
theorem k_X2_ends (l : Launch) {s0 : State} {D : va_G} {g : ClassId × ClassId × ClassId} (Z : hr_Z s0 D g) {m : Nat} (h0 : s0.heap.size ≤ m) {M : Nat → Nat} {C : Nat → Nat → Int32} {h : Nat → Int32} {ta lo : Int32} {f : Int32 × Int32 × Int32 × Int32} {σ : hp_S} {r k : Nat} {stk : List (Nat × Nat)} (hd : stk.length < 6) (hn : hp_n (hp_ret stk (hp_wr (-1) σ)).1 ≤ 6000) {sz : Nat} : hr_C l yX2_ends (ws_ yX2_ends cX2_ends 1 none) (hr_L 3 0 0) s0 m 7 sz [.ref m] (fun H => hr_tR D g m M C h ta lo f σ ((r, k) :: stk) H) (hr_Qv (fun H => hr_tR D g m M C h ta lo f (hp_ret stk (hp_wr (-1) σ)).1 (hp_ret stk (hp_wr (-1) σ)).2.1 H)) 0 0 := by
  refine hr_meth (by decide) (Nat.le_of_ble_eq_true rfl) Z h0 ?_
  intro p e s m0 below meth c ls X hr hlk hnm htab hadm hsz hC hl
  have hl : lv_has ls 1 [(0, _)] := hl
  have hreg := hr_reg (lo := m) (n := 7) (sz := s.heap.size)
  have hS := hr_S0 (s := s) (lo := m) (n := 7)
  refine lv_aload_n X.ex X.by dX2_ends_0 rfl (lv_at hl 0 rfl) ?_
  refine lv_iconst (v := (-1)) X.ex X.by dX2_ends_1 (by decide) ?_
  refine c_X2_writes X hC (by have := hp_ret_ge stk (hp_wr (-1) σ); have e : hp_n (hp_wr (-1) σ) = hp_n σ + 1 := rfl; omega) hS hreg ⟨Nat.le_of_ble_eq_true rfl, Nat.le_of_ble_eq_true rfl⟩ ⟨Nat.zero_le _, Nat.zero_le _⟩ hl.1 (Nat.le_of_ble_eq_true rfl) dX2_ends_2 (fun H locs hC hS => ?_)
  obtain ⟨rk, at', hk, hC⟩ := hC
  refine lv_aload_n X.ex X.by dX2_ends_5 rfl (lv_at hl 0 rfl) ?_
  refine lv_dup X.ex X.by dX2_ends_6 rfl ?_
  refine hr_tget X hC 14 (by decide) rfl q425 dX2_ends_7 ?_
  refine lv_iconst (v := 1) X.ex X.by dX2_ends_10 (by decide) ?_
  refine lv_isub X.ex X.by dX2_ends_11 ?_
  refine hr_tput X hC hS hreg 14 (by decide) (Nat.le_of_ble_eq_true rfl) rfl rfl q425 dX2_ends_12 (fun H locs hC hS _ => ?_)
  have ed : nI ((r, k) :: stk).length - 1 = nI stk.length := nI_pred _
  rw [ed] at hC
  have hC : hr_tR D g m M C h ta lo f (hp_wr (-1) σ) stk H := ⟨rk, at', hk.2.2, hC⟩
  clear hk ed
  cases stk with
  | nil =>
    obtain ⟨rk, at', hk, hC⟩ := hC
    refine lv_aload_n X.ex X.by dX2_ends_15 rfl (lv_at hl 0 rfl) ?_
    refine hr_tget X hC 14 (by decide) rfl q425 dX2_ends_16 ?_
    refine lv_if_le (tgt := 26) X.ex X.by dX2_ends_19 (by decide) (fun c_19 => ?_) (fun c_19 => absurd (show nI 0 ≤ 0 by decide) c_19)
    exact hr_vret X hr hlk hS ⟨rfl, rk, at', hk, hC⟩ (Nat.le_refl _) (Nat.le_refl _) dX2_ends_26
  | cons q stk =>
    obtain ⟨r2, k2⟩ := q
    have hd2 : stk.length + 1 < 6 := hd
    obtain ⟨rk, at', hk, hC⟩ := hC
    refine lv_aload_n X.ex X.by dX2_ends_15 rfl (lv_at hl 0 rfl) ?_
    refine hr_tget X hC 14 (by decide) rfl q425 dX2_ends_16 ?_
    refine lv_if_le (tgt := 26) X.ex X.by dX2_ends_19 (by decide) (fun c_19 => absurd c_19 (nI_nle (Nat.succ_pos stk.length) (by omega))) (fun c_19 => ?_)
    refine lv_aload_n X.ex X.by dX2_ends_22 rfl (lv_at hl 0 rfl) ?_
    have hC : hr_tR D g m M C h ta lo f (hp_wr (-1) σ) ((r2, k2) :: stk) H := ⟨rk, at', hk, hC⟩
    refine c_X2_passes X hC (by omega) (by have e : hp_n (hp_ret ((r2, k2) :: stk) (hp_wr (-1) σ)).1 = hp_n (hp_wr (-1) σ) + 3 := rfl; omega) hS hreg ⟨Nat.le_of_ble_eq_true rfl, Nat.le_of_ble_eq_true rfl⟩ ⟨Nat.zero_le _, Nat.zero_le _⟩ hl.1 (Nat.le_of_ble_eq_true rfl) dX2_ends_23 (fun H locs hC hS => ?_)
    exact hr_vret X hr hlk hS ⟨rfl, hC⟩ (Nat.le_refl _) (Nat.le_refl _) dX2_ends_26
theorem c_X2_ends {p : Program} {l : Launch} {e : Env} {R : Room} {s : State} {m0 : MethodId} {args : Array Value} {below : List Frame} {meth : Method} {c : Code} {H : Heap} {locs : List Loc} {cells slots : Nat} {Q : State → Prop} {cc : ByteArray} {nL : Nat} {s0 : State} {D : va_G} {g : ClassId × ClassId × ClassId} {A : Nat → Prop} {pc : Nat} {ls : Array Slot} {rest : List Value} {m : Nat} (X : hr_X p s m0 args c cc nL RX2 s0 D g A) {M : Nat → Nat} {C : Nat → Nat → Int32} {h : Nat → Int32} {ta lo : Int32} {f : Int32 × Int32 × Int32 × Int32} {σ : hp_S} {r k : Nat} {stk : List (Nat × Nat)} (hC : hr_tR D g m M C h ta lo f σ ((r, k) :: stk) H) (hd : stk.length < 6) (hn : hp_n (hp_ret stk (hp_wr (-1) σ)).1 ≤ 6000) (hS : va_S A s.heap H locs) (hreg : ∀ q : Nat, m ≤ q → q < m + 7 → A q) (hR : 4 ≤ R.frames ∧ 160 ≤ R.locals) (hf : cells ≤ R.cells ∧ slots ≤ R.slots) (hsize : ls.size = nL) (hW : (rest.map fun v => v.category).sum ≤ 8) (hdg : decode cc pc = .ok (.invokevirtual 94, 3))
    (kk : ∀ (H1 : Heap) (locs1 : List Loc), hr_tR D g m M C h ta lo f (hp_ret stk (hp_wr (-1) σ)).1 (hp_ret stk (hp_wr (-1) σ)).2.1 H1 → va_S A s.heap H1 locs1 → W p l e R s m0 args below meth c H1 locs1 cells slots Q (F0 m0 (pc + 3) ls (rest))) : W p l e R s m0 args below meth c H locs cells slots Q (F0 m0 pc ls (.ref m :: rest)) :=
  hr_callVv X (k_X2_ends l X.2.1 (X.2.2.2.1 m (hreg m (Nat.le_refl m) (by omega)))  hd hn) v_X2_ends (lw_meth q511) hS hreg (hr_tR.recv X hC) hC rfl rfl (hr_lR (by decide) hR) hsize rfl hW hf hdg (fun H1 locs1 hP hS9 _ => kk H1 locs1 hP hS9)
end HRT
end
section
/-! THE REFERENCE's PRIVATE METHODS, on -/
section HRU
set_option maxHeartbeats 4000000 in
theorem k_X2_begins (l : Launch) {s0 : State} {D : va_G} {g : ClassId × ClassId × ClassId} (Z : hr_Z s0 D g) {m : Nat} (h0 : s0.heap.size ≤ m) {M : Nat → Nat} {C : Nat → Nat → Int32} {h : Nat → Int32} {ta lo : Int32} {f : Int32 × Int32 × Int32 × Int32} {σ : hp_S} {r : Nat} {stk : List (Nat × Nat)} (hd : stk.length < 6) (hmr : σ.2.2.1 ≤ 6) (hn : hp_n σ < 6000) {sz : Nat} : hr_C l yX2_begins (ws_ yX2_begins cX2_begins 2 none) (hr_L 1 0 0) s0 m 7 sz [.ref m, .int (nI r)] (fun H => hr_tR D g m M C h ta lo f σ stk H) (hr_Qv (fun H => hr_tR D g m M C h ta lo f (hp_wr 1 (hp_mrs (stk.length + 1) σ)) ((r, 0) :: stk) H)) 0 0 := by
  refine hr_meth (by decide) (Nat.le_of_ble_eq_true rfl) Z h0 ?_
  intro p e s m0 below meth c ls X hr hlk hnm htab hadm hsz hC hl
  have hl : lv_has ls 2 [(0, _), (1, _)] := hl
  have hreg := hr_reg (lo := m) (n := 7) (sz := s.heap.size)
  have hS := hr_S0 (s := s) (lo := m) (n := 7)
  obtain ⟨rk, at', hk, hC⟩ := hC
  refine lv_aload_n X.ex X.by dX2_begins_0 rfl (lv_at hl 0 rfl) ?_
  refine hr_tget X hC 15 (by decide) rfl q426 dX2_begins_1 ?_
  refine lv_aload_n X.ex X.by dX2_begins_4 rfl (lv_at hl 0 rfl) ?_
  refine hr_tget X hC 14 (by decide) rfl q425 dX2_begins_5 ?_
  refine lv_iload_n X.ex X.by dX2_begins_8 rfl (lv_at hl 1 rfl) ?_
  refine hr_trst X hC hS hreg rfl hd dX2_begins_9 (fun H locs hC hS _ => ?_)
  refine lv_aload_n X.ex X.by dX2_begins_10 rfl (lv_at hl 0 rfl) ?_
  refine hr_tget X hC 16 (by decide) rfl q427 dX2_begins_11 ?_
  refine lv_aload_n X.ex X.by dX2_begins_14 rfl (lv_at hl 0 rfl) ?_
  refine hr_tget X hC 14 (by decide) rfl q425 dX2_begins_15 ?_
  refine lv_iconst (v := 0) X.ex X.by dX2_begins_18 (by decide) ?_
  refine hr_tast X hC hS hreg (j := stk.length) rfl hd dX2_begins_19 (fun H locs hC hS _ => ?_)
  refine lv_aload_n X.ex X.by dX2_begins_20 rfl (lv_at hl 0 rfl) ?_
  refine lv_dup X.ex X.by dX2_begins_21 rfl ?_
  refine hr_tget X hC 14 (by decide) rfl q425 dX2_begins_22 ?_
  refine lv_iconst (v := 1) X.ex X.by dX2_begins_25 (by decide) ?_
  refine lv_iadd X.ex X.by dX2_begins_26 ?_
  refine hr_tput X hC hS hreg 14 (by decide) (Nat.le_of_ble_eq_true rfl) rfl rfl q425 dX2_begins_27 (fun H locs hC hS _ => ?_)
  refine lv_aload_n X.ex X.by dX2_begins_30 rfl (lv_at hl 0 rfl) ?_
  refine lv_aload_n X.ex X.by dX2_begins_31 rfl (lv_at hl 0 rfl) ?_
  refine hr_tget X hC 14 (by decide) rfl q425 dX2_begins_32 ?_
  refine lv_aload_n X.ex X.by dX2_begins_35 rfl (lv_at hl 0 rfl) ?_
  refine hr_tget X hC 11 (by decide) rfl q422 dX2_begins_36 ?_
  refine lv_icmp_le (tgt := 49) X.ex X.by dX2_begins_39 (by decide) (fun c_39 => ?_) (fun c_39 => ?_)
  · rw [nI_1] at hC c_39
    have cc : ¬ σ.2.2.1 < stk.length + 1 := fun z => nI_ge z (by omega) c_39
    refine lv_aload_n X.ex X.by dX2_begins_49 rfl (lv_at hl 0 rfl) ?_
    refine hr_tget X hC 11 (by decide) rfl q422 dX2_begins_50 ?_
    refine hr_tput X hC hS hreg 11 (by decide) (Nat.le_of_ble_eq_true rfl) rfl rfl q422 dX2_begins_53 (fun H locs hC hS _ => ?_)
    refine lv_aload_n X.ex X.by dX2_begins_56 rfl (lv_at hl 0 rfl) ?_
    refine lv_iconst (v := 1) X.ex X.by dX2_begins_57 (by decide) ?_
    have hC : hr_tR D g m M C h ta lo f (hp_mrs (stk.length + 1) σ) ((r, 0) :: stk) H := ⟨_, _, hk.push r 0, by unfold hp_mrs; first | (rw [if_pos cc]; exact hC) | (rw [if_neg cc]; exact hC)⟩
    refine c_X2_writes X hC hn hS hreg ⟨Nat.le_of_ble_eq_true rfl, Nat.le_of_ble_eq_true rfl⟩ ⟨Nat.zero_le _, Nat.zero_le _⟩ hl.1 (Nat.le_of_ble_eq_true rfl) dX2_begins_58 (fun H locs hC hS => ?_)
    exact hr_vret X hr hlk hS ⟨rfl, hC⟩ (Nat.le_refl _) (Nat.le_refl _) dX2_begins_61
  · rw [nI_1] at hC c_39
    have cc : σ.2.2.1 < stk.length + 1 := Nat.lt_of_not_le (fun z => c_39 (nI_le z (by omega)))
    refine lv_aload_n X.ex X.by dX2_begins_42 rfl (lv_at hl 0 rfl) ?_
    refine hr_tget X hC 14 (by decide) rfl q425 dX2_begins_43 ?_
    refine lv_goto (tgt := 53) X.ex X.by dX2_begins_46 (by decide) ?_
    refine hr_tput X hC hS hreg 11 (by decide) (Nat.le_of_ble_eq_true rfl) rfl rfl q422 dX2_begins_53 (fun H locs hC hS _ => ?_)
    refine lv_aload_n X.ex X.by dX2_begins_56 rfl (lv_at hl 0 rfl) ?_
    refine lv_iconst (v := 1) X.ex X.by dX2_begins_57 (by decide) ?_
    have hC : hr_tR D g m M C h ta lo f (hp_mrs (stk.length + 1) σ) ((r, 0) :: stk) H := ⟨_, _, hk.push r 0, by unfold hp_mrs; first | (rw [if_pos cc]; exact hC) | (rw [if_neg cc]; exact hC)⟩
    refine c_X2_writes X hC hn hS hreg ⟨Nat.le_of_ble_eq_true rfl, Nat.le_of_ble_eq_true rfl⟩ ⟨Nat.zero_le _, Nat.zero_le _⟩ hl.1 (Nat.le_of_ble_eq_true rfl) dX2_begins_58 (fun H locs hC hS => ?_)
    exact hr_vret X hr hlk hS ⟨rfl, hC⟩ (Nat.le_refl _) (Nat.le_refl _) dX2_begins_61
theorem c_X2_begins {p : Program} {l : Launch} {e : Env} {R : Room} {s : State} {m0 : MethodId} {args : Array Value} {below : List Frame} {meth : Method} {c : Code} {H : Heap} {locs : List Loc} {cells slots : Nat} {Q : State → Prop} {cc : ByteArray} {nL : Nat} {s0 : State} {D : va_G} {g : ClassId × ClassId × ClassId} {A : Nat → Prop} {pc : Nat} {ls : Array Slot} {rest : List Value} {m : Nat} (X : hr_X p s m0 args c cc nL RX2 s0 D g A) {M : Nat → Nat} {C : Nat → Nat → Int32} {h : Nat → Int32} {ta lo : Int32} {f : Int32 × Int32 × Int32 × Int32} {σ : hp_S} {r : Nat} {stk : List (Nat × Nat)} (hC : hr_tR D g m M C h ta lo f σ stk H) (hd : stk.length < 6) (hmr : σ.2.2.1 ≤ 6) (hn : hp_n σ < 6000) (hS : va_S A s.heap H locs) (hreg : ∀ q : Nat, m ≤ q → q < m + 7 → A q) (hR : 2 ≤ R.frames ∧ 80 ≤ R.locals) (hf : cells ≤ R.cells ∧ slots ≤ R.slots) (hsize : ls.size = nL) (hW : (rest.map fun v => v.category).sum ≤ 8) (hdg : decode cc pc = .ok (.invokevirtual 88, 3))
    (kk : ∀ (H1 : Heap) (locs1 : List Loc), hr_tR D g m M C h ta lo f (hp_wr 1 (hp_mrs (stk.length + 1) σ)) ((r, 0) :: stk) H1 → va_S A s.heap H1 locs1 → W p l e R s m0 args below meth c H1 locs1 cells slots Q (F0 m0 (pc + 3) ls (rest))) : W p l e R s m0 args below meth c H locs cells slots Q (F0 m0 pc ls (.int (nI r) :: .ref m :: rest)) :=
  hr_callVv X (k_X2_begins l X.2.1 (X.2.2.2.1 m (hreg m (Nat.le_refl m) (by omega)))  hd hmr hn) v_X2_begins (lw_meth q499) hS hreg (hr_tR.recv X hC) hC rfl rfl (hr_lR (by decide) hR) hsize rfl hW hf hdg (fun H1 locs1 hP hS9 _ => kk H1 locs1 hP hS9)
set_option maxHeartbeats 4000000 in
theorem up_loop {p : Program} {l : Launch} {e : Env} {s : State} {m0 : MethodId} {below : List Frame} {meth : Method} {c : Code} {s0 : State} {D : va_G} {g : ClassId × ClassId × ClassId} {m : Nat} (X : hr_X p s m0 ([.ref m] : List Value).toArray c cX2_up 2 RX2 s0 D g (hr_A m 7 s.heap.size)) (hr : meth.sig.returnType = none) (hlk : meth.locks = false) {M : Nat → Nat} {C : Nat → Nat → Int32} {h : Nat → Int32} {ta lo : Int32} (hM : ∀ r, r < 8 → M r ≤ 12) {T : hp_T} (hT6 : hp_n T.1 ≤ 6000) :
    ∀ (stk : List (Nat × Nat)) (r k : Nat) (x : hp_X) (σ : hp_S) (H : Heap) (locs : List Loc) (ls : Array Slot), hp_up C stk x σ = T → hp_xv x → hp_lv M stk → stk.length < 6 → hr_tR D g m M C h ta lo (hp_f x) σ ((r, k) :: stk) H → va_S (hr_A m 7 s.heap.size) s.heap H locs → lv_has ls 2 [(1, .int 1), (0, .ref m)] → W p l e (hr_L 3 0 0) s m0 ([.ref m] : List Value).toArray below meth c H locs 0 0 (hr_Q below (hr_Qc m 7 (hr_Qv (fun H => hr_tR D g m M C h ta lo (hp_fo T.2.2) T.1 T.2.1 H))) ([.ref m] : List Value).toArray s 0 0 (hr_A m 7 s.heap.size)) (F0 m0 2 ls []) := by
  have hreg := hr_reg (lo := m) (n := 7) (sz := s.heap.size)
  intro stk
  induction stk with
  | nil =>
    intro r k x σ H locs ls hT hx hlv hd hC hS hl
    have hn3 : hp_n σ + 3 ≤ 6000 := by
      have h1 := hp_res_ge (C := C) [] x (hp_wr (-1) (hp_cl σ))
      have e : hp_n (hp_wr (-1) (hp_cl σ)) = hp_n σ + 3 := rfl
      have e2 : hp_res C [] x (hp_wr (-1) (hp_cl σ)) = T := hT
      rw [e2] at h1
      omega
    refine lv_iload_n X.ex X.by dX2_up_2 rfl (lv_at hl 0 rfl) ?_
    refine lv_if_eq (tgt := 48) X.ex X.by dX2_up_3 (by decide) (fun c_3 => absurd c_3 (by decide)) (fun c_3 => ?_)
    refine lv_aload_n X.ex X.by dX2_up_6 rfl (lv_at hl 1 rfl) ?_
    refine c_X2_closes X hC (by omega) hS hreg ⟨Nat.le_of_ble_eq_true rfl, Nat.le_of_ble_eq_true rfl⟩ ⟨Nat.zero_le _, Nat.zero_le _⟩ hl.1 (Nat.le_of_ble_eq_true rfl) dX2_up_7 (fun H locs hC hS => ?_)
    refine lv_aload_n X.ex X.by dX2_up_10 rfl (lv_at hl 1 rfl) ?_
    refine lv_iconst (v := (-1)) X.ex X.by dX2_up_11 (by decide) ?_
    refine c_X2_writes X hC (by have e : hp_n (hp_cl σ) = hp_n σ + 2 := rfl; omega) hS hreg ⟨Nat.le_of_ble_eq_true rfl, Nat.le_of_ble_eq_true rfl⟩ ⟨Nat.zero_le _, Nat.zero_le _⟩ hl.1 (Nat.le_of_ble_eq_true rfl) dX2_up_12 (fun H locs hC hS => ?_)
    obtain ⟨rk, at', hk, hC⟩ := hC
    refine lv_aload_n X.ex X.by dX2_up_15 rfl (lv_at hl 1 rfl) ?_
    refine lv_dup X.ex X.by dX2_up_16 rfl ?_
    refine hr_tget X hC 14 (by decide) rfl q425 dX2_up_17 ?_
    refine lv_iconst (v := 1) X.ex X.by dX2_up_20 (by decide) ?_
    refine lv_isub X.ex X.by dX2_up_21 ?_
    refine hr_tput X hC hS hreg 14 (by decide) (Nat.le_of_ble_eq_true rfl) rfl rfl q425 dX2_up_22 (fun H locs hC hS _ => ?_)
    have ed : nI ((r, k) :: ([] : List (Nat × Nat))).length - 1 = nI 0 := nI_pred _
    rw [ed] at hC
    refine lv_aload_n X.ex X.by dX2_up_25 rfl (lv_at hl 1 rfl) ?_
    refine hr_tget X hC 14 (by decide) rfl q425 dX2_up_26 ?_
    refine lv_if_le (tgt := 43) X.ex X.by dX2_up_29 (by decide) (fun c_29 => ?_) (fun c_29 => absurd (show nI 0 ≤ 0 by decide) c_29)
    refine lv_iconst (v := 0) X.ex X.by dX2_up_43 (by decide) ?_
    refine lv_istore_n X.ex X.by dX2_up_44 rfl hl (by decide) rfl (fun ls hl => ?_)
    have hl : lv_has ls 2 [(1, _), (0, _)] := hl
    refine lv_goto (tgt := 2) X.ex X.by dX2_up_45 (by decide) ?_
    refine lv_iload_n X.ex X.by dX2_up_2 rfl (lv_at hl 0 rfl) ?_
    refine lv_if_eq (tgt := 48) X.ex X.by dX2_up_3 (by decide) (fun c_3 => ?_) (fun c_3 => absurd rfl c_3)
    refine lv_aload_n X.ex X.by dX2_up_48 rfl (lv_at hl 1 rfl) ?_
    refine hr_tget X hC 14 (by decide) rfl q425 dX2_up_49 ?_
    refine lv_if_le (tgt := 59) X.ex X.by dX2_up_52 (by decide) (fun c_52 => ?_) (fun c_52 => absurd (show nI 0 ≤ 0 by decide) c_52)
    have hC : hr_tR D g m M C h ta lo (hp_f x) (hp_wr (-1) (hp_cl σ)) [] H := ⟨rk, at', hk.2.2, hC⟩
    subst hT
    exact hr_vret X hr hlk hS ⟨rfl, hC⟩ (Nat.le_refl _) (Nat.le_refl _) dX2_up_59
  | cons q stk ih =>
    intro r k x σ H locs ls hT hx hlv hd hC hS hl
    have hn3 : hp_n σ + 3 ≤ 6000 := by
      have h1 := hp_res_ge (C := C) (q :: stk) x (hp_wr (-1) (hp_cl σ))
      have e : hp_n (hp_wr (-1) (hp_cl σ)) = hp_n σ + 3 := rfl
      have e2 : hp_res C (q :: stk) x (hp_wr (-1) (hp_cl σ)) = T := hT
      rw [e2] at h1
      omega
    obtain ⟨r2, k2⟩ := q
    have hd2 : stk.length + 1 < 6 := hd
    have hv := hlv.hd
    have hv2 : k2 < 12 := Nat.lt_of_lt_of_le hv.2 (hM _ hv.1)
    have hn4 : hp_n σ + 4 ≤ 6000 := by
      have e2 : hp_res C ((r2, k2) :: stk) x (hp_wr (-1) (hp_cl σ)) = T := hT
      have h1 : hp_n σ + 4 ≤ hp_n (hp_res C ((r2, k2) :: stk) x (hp_wr (-1) (hp_cl σ))).1 := by
        rw [hp_res]
        split
        · refine Nat.le_trans ?_ (hp_res_ge _ _ _)
          show hp_n σ + 4 ≤ hp_n σ + 6; omega
        · split
          · refine Nat.le_trans ?_ (hp_res_ge _ _ _)
            show hp_n σ + 4 ≤ hp_n σ + 6; omega
          · show hp_n σ + 4 ≤ hp_n σ + 7; omega
      rw [e2] at h1
      omega
    refine lv_iload_n X.ex X.by dX2_up_2 rfl (lv_at hl 0 rfl) ?_
    refine lv_if_eq (tgt := 48) X.ex X.by dX2_up_3 (by decide) (fun c_3 => absurd c_3 (by decide)) (fun c_3 => ?_)
    refine lv_aload_n X.ex X.by dX2_up_6 rfl (lv_at hl 1 rfl) ?_
    refine c_X2_closes X hC (by omega) hS hreg ⟨Nat.le_of_ble_eq_true rfl, Nat.le_of_ble_eq_true rfl⟩ ⟨Nat.zero_le _, Nat.zero_le _⟩ hl.1 (Nat.le_of_ble_eq_true rfl) dX2_up_7 (fun H locs hC hS => ?_)
    refine lv_aload_n X.ex X.by dX2_up_10 rfl (lv_at hl 1 rfl) ?_
    refine lv_iconst (v := (-1)) X.ex X.by dX2_up_11 (by decide) ?_
    refine c_X2_writes X hC (by have e : hp_n (hp_cl σ) = hp_n σ + 2 := rfl; omega) hS hreg ⟨Nat.le_of_ble_eq_true rfl, Nat.le_of_ble_eq_true rfl⟩ ⟨Nat.zero_le _, Nat.zero_le _⟩ hl.1 (Nat.le_of_ble_eq_true rfl) dX2_up_12 (fun H locs hC hS => ?_)
    obtain ⟨rk, at', hk, hC⟩ := hC
    refine lv_aload_n X.ex X.by dX2_up_15 rfl (lv_at hl 1 rfl) ?_
    refine lv_dup X.ex X.by dX2_up_16 rfl ?_
    refine hr_tget X hC 14 (by decide) rfl q425 dX2_up_17 ?_
    refine lv_iconst (v := 1) X.ex X.by dX2_up_20 (by decide) ?_
    refine lv_isub X.ex X.by dX2_up_21 ?_
    refine hr_tput X hC hS hreg 14 (by decide) (Nat.le_of_ble_eq_true rfl) rfl rfl q425 dX2_up_22 (fun H locs hC hS _ => ?_)
    have ed : nI ((r, k) :: (r2, k2) :: stk).length - 1 = nI (stk.length + 1) := nI_pred _
    rw [ed] at hC
    refine lv_aload_n X.ex X.by dX2_up_25 rfl (lv_at hl 1 rfl) ?_
    refine hr_tget X hC 14 (by decide) rfl q425 dX2_up_26 ?_
    refine lv_if_le (tgt := 43) X.ex X.by dX2_up_29 (by decide) (fun c_29 => absurd c_29 (nI_nle (Nat.succ_pos stk.length) (by omega))) (fun c_29 => ?_)
    refine lv_aload_n X.ex X.by dX2_up_32 rfl (lv_at hl 1 rfl) ?_
    have hC : hr_tR D g m M C h ta lo (hp_f x) (hp_wr (-1) (hp_cl σ)) ((r2, k2) :: stk) H := ⟨rk, at', hk.2.2, hC⟩
    refine c_X2_takes X hC hx hv.1 hv2 (by omega) (by have e : hp_n (hp_wr (-1) (hp_cl σ)) = hp_n σ + 3 := rfl; have h9 := hn4; omega) hS hreg ⟨Nat.le_of_ble_eq_true rfl, Nat.le_of_ble_eq_true rfl⟩ ⟨Nat.zero_le _, Nat.zero_le _⟩ hl.1 (Nat.le_of_ble_eq_true rfl) dX2_up_33 (fun r_33 H locs hC hS => ?_)
    rcases hC with ⟨hA, rfl, hC⟩ | ⟨hA, hB, rfl, hC⟩ | ⟨hA, hB, rfl, hC⟩
    · refine lv_if_ne (tgt := 43) X.ex X.by dX2_up_36 (by decide) (fun c_36 => absurd c_36 (fun z => z rfl)) (fun c_36 => ?_)
      refine lv_iconst (v := 1) X.ex X.by dX2_up_39 (by decide) ?_
      refine lv_goto (tgt := 44) X.ex X.by dX2_up_40 (by decide) ?_
      refine lv_istore_n X.ex X.by dX2_up_44 rfl hl (by decide) rfl (fun ls hl => ?_)
      have hl : lv_has ls 2 [(1, _), (0, _)] := hl
      refine lv_goto (tgt := 2) X.ex X.by dX2_up_45 (by decide) ?_
      exact ih r2 k2 x (hp_wr (-1) (hp_cl σ)) H locs ls (by rw [← hT]; unfold hp_up; rw [hp_res, if_pos hA]) hx hlv.tl (by omega) hC hS hl
    · refine lv_if_ne (tgt := 43) X.ex X.by dX2_up_36 (by decide) (fun c_36 => absurd c_36 (fun z => z rfl)) (fun c_36 => ?_)
      refine lv_iconst (v := 1) X.ex X.by dX2_up_39 (by decide) ?_
      refine lv_goto (tgt := 44) X.ex X.by dX2_up_40 (by decide) ?_
      refine lv_istore_n X.ex X.by dX2_up_44 rfl hl (by decide) rfl (fun ls hl => ?_)
      have hl : lv_has ls 2 [(1, _), (0, _)] := hl
      refine lv_goto (tgt := 2) X.ex X.by dX2_up_45 (by decide) ?_
      exact ih r2 k2 (x.1, (C r2 k2 - 2000).toNatClampNeg :: x.2) (hp_exc (hp_wr (-1) (hp_cl σ))) H locs ls (by rw [← hT]; unfold hp_up; rw [hp_res, if_neg hA, if_pos hB]) ⟨hx.1, hx.2.1, fun z => absurd (Or.inl z) hA⟩ hlv.tl (by omega) hC.exc hS hl
    · refine lv_if_ne (tgt := 43) X.ex X.by dX2_up_36 (by decide) (fun c_36 => ?_) (fun c_36 => absurd c_36 (by decide))
      refine lv_iconst (v := 0) X.ex X.by dX2_up_43 (by decide) ?_
      refine lv_istore_n X.ex X.by dX2_up_44 rfl hl (by decide) rfl (fun ls hl => ?_)
      have hl : lv_has ls 2 [(1, _), (0, _)] := hl
      refine lv_goto (tgt := 2) X.ex X.by dX2_up_45 (by decide) ?_
      refine lv_iload_n X.ex X.by dX2_up_2 rfl (lv_at hl 0 rfl) ?_
      refine lv_if_eq (tgt := 48) X.ex X.by dX2_up_3 (by decide) (fun c_3 => ?_) (fun c_3 => absurd rfl c_3)
      obtain ⟨rk, at', hk, hC⟩ := hC
      refine lv_aload_n X.ex X.by dX2_up_48 rfl (lv_at hl 1 rfl) ?_
      refine hr_tget X hC 14 (by decide) rfl q425 dX2_up_49 ?_
      refine lv_if_le (tgt := 59) X.ex X.by dX2_up_52 (by decide) (fun c_52 => absurd c_52 (nI_nle (Nat.succ_pos stk.length) (by omega))) (fun c_52 => ?_)
      refine lv_aload_n X.ex X.by dX2_up_55 rfl (lv_at hl 1 rfl) ?_
      have hC : hr_tR D g m M C h ta lo (hp_fo none) (hp_add (nI (hp_code x)) (hp_wr 7 (hp_wr (-1) (hp_cl σ)))) ((r2, k2) :: stk) H := ⟨rk, at', hk, hC⟩
      refine c_X2_passes X hC (by omega) (by have e : hp_n (hp_add (nI (hp_code x)) (hp_wr 7 (hp_wr (-1) (hp_cl σ)))) = hp_n σ + 4 := rfl; have e2 : hp_n T.1 = hp_n σ + 7 := (by rw [← hT]; unfold hp_up; rw [hp_res, if_neg hA, if_neg hB]; rfl); omega) hS hreg ⟨Nat.le_of_ble_eq_true rfl, Nat.le_of_ble_eq_true rfl⟩ ⟨Nat.zero_le _, Nat.zero_le _⟩ hl.1 (Nat.le_of_ble_eq_true rfl) dX2_up_56 (fun H locs hC hS => ?_)
      have eT : hp_up C ((r2, k2) :: stk) x σ = (hp_wr 5 (hp_cl (hp_add (nI (hp_code x)) (hp_wr 7 (hp_wr (-1) (hp_cl σ))))), (r2, k2 + 1) :: stk, none) := by unfold hp_up; rw [hp_res, if_neg hA, if_neg hB]
      rw [eT] at hT
      subst hT
      exact hr_vret X hr hlk hS ⟨rfl, hC⟩ (Nat.le_refl _) (Nat.le_refl _) dX2_up_59
set_option maxHeartbeats 4000000 in
theorem k_X2_up (l : Launch) {s0 : State} {D : va_G} {g : ClassId × ClassId × ClassId} (Z : hr_Z s0 D g) {m : Nat} (h0 : s0.heap.size ≤ m) {M : Nat → Nat} {C : Nat → Nat → Int32} {h : Nat → Int32} {ta lo : Int32} {x : hp_X} {σ : hp_S} {r k : Nat} {stk : List (Nat × Nat)} (hM : ∀ r, r < 8 → M r ≤ 12) (hx : hp_xv x) (hlv : hp_lv M stk) (hd : stk.length < 6) (hn : hp_n (hp_up C stk x σ).1 ≤ 6000) {sz : Nat} : hr_C l yX2_up (ws_ yX2_up cX2_up 2 none) (hr_L 3 0 0) s0 m 7 sz [.ref m] (fun H => hr_tR D g m M C h ta lo (hp_f x) σ ((r, k) :: stk) H) (hr_Qv (fun H => hr_tR D g m M C h ta lo (hp_fo (hp_up C stk x σ).2.2) (hp_up C stk x σ).1 (hp_up C stk x σ).2.1 H)) 0 0 := by
  refine hr_meth (by decide) (Nat.le_of_ble_eq_true rfl) Z h0 ?_
  intro p e s m0 below meth c ls X hr hlk hnm htab hadm hsz hC hl
  have hl : lv_has ls 2 [(0, _)] := hl
  have hreg := hr_reg (lo := m) (n := 7) (sz := s.heap.size)
  have hS := hr_S0 (s := s) (lo := m) (n := 7)
  refine lv_iconst (v := 1) X.ex X.by dX2_up_0 (by decide) ?_
  refine lv_istore_n X.ex X.by dX2_up_1 rfl hl (by decide) rfl (fun ls hl => ?_)
  have hl : lv_has ls 2 [(1, _), (0, _)] := hl
  exact up_loop X hr hlk hM (T := hp_up C stk x σ) hn stk r k x σ _ _ ls rfl hx hlv hd hC hS hl
theorem c_X2_up {p : Program} {l : Launch} {e : Env} {R : Room} {s : State} {m0 : MethodId} {args : Array Value} {below : List Frame} {meth : Method} {c : Code} {H : Heap} {locs : List Loc} {cells slots : Nat} {Q : State → Prop} {cc : ByteArray} {nL : Nat} {s0 : State} {D : va_G} {g : ClassId × ClassId × ClassId} {A : Nat → Prop} {pc : Nat} {ls : Array Slot} {rest : List Value} {m : Nat} (X : hr_X p s m0 args c cc nL RX2 s0 D g A) {M : Nat → Nat} {C : Nat → Nat → Int32} {h : Nat → Int32} {ta lo : Int32} {x : hp_X} {σ : hp_S} {r k : Nat} {stk : List (Nat × Nat)} (hC : hr_tR D g m M C h ta lo (hp_f x) σ ((r, k) :: stk) H) (hM : ∀ r, r < 8 → M r ≤ 12) (hx : hp_xv x) (hlv : hp_lv M stk) (hd : stk.length < 6) (hn : hp_n (hp_up C stk x σ).1 ≤ 6000) (hS : va_S A s.heap H locs) (hreg : ∀ q : Nat, m ≤ q → q < m + 7 → A q) (hR : 4 ≤ R.frames ∧ 160 ≤ R.locals) (hf : cells ≤ R.cells ∧ slots ≤ R.slots) (hsize : ls.size = nL) (hW : (rest.map fun v => v.category).sum ≤ 8) (hdg : decode cc pc = .ok (.invokevirtual 91, 3))
    (kk : ∀ (H1 : Heap) (locs1 : List Loc), hr_tR D g m M C h ta lo (hp_fo (hp_up C stk x σ).2.2) (hp_up C stk x σ).1 (hp_up C stk x σ).2.1 H1 → va_S A s.heap H1 locs1 → W p l e R s m0 args below meth c H1 locs1 cells slots Q (F0 m0 (pc + 3) ls (rest))) : W p l e R s m0 args below meth c H locs cells slots Q (F0 m0 pc ls (.ref m :: rest)) :=
  hr_callVv X (k_X2_up l X.2.1 (X.2.2.2.1 m (hreg m (Nat.le_refl m) (by omega)))  hM hx hlv hd hn) v_X2_up (lw_meth q527) hS hreg (hr_tR.recv X hC) hC rfl rfl (hr_lR (by decide) hR) hsize rfl hW hf hdg (fun H1 locs1 hP hS9 _ => kk H1 locs1 hP hS9)
end HRU
end
section
/-! the machine keeps mostRopes at 6 and begun at 300 -/
section HPR
variable {M : Nat → Nat} {C : Nat → Nat → Int32} {h : Nat → Int32} {ta lo : Int32}
def hp_mb (σ : hp_S) : Prop := σ.2.2.1 ≤ 6 ∧ hp_bg σ ≤ 300
theorem hp_res_mb : ∀ (l : List (Nat × Nat)) (x : hp_X) (σ : hp_S), hp_mb σ → hp_mb (hp_res C l x σ).1 := by
  intro l
  induction l with
  | nil => intro x σ hm; exact hm
  | cons q l ih =>
    intro x σ hm
    obtain ⟨r, k⟩ := q
    by_cases a1 : x.1 = 7 ∨ C r k < 2000
    · rw [hp_res, if_pos a1]; exact ih _ _ hm
    · by_cases a2 : C r k < 3000
      · rw [hp_res, if_neg a1, if_pos a2]; exact ih _ _ hm
      · rw [hp_res, if_neg a1, if_neg a2]; exact hm
theorem hp_ret_mb (l : List (Nat × Nat)) (σ : hp_S) (hm : hp_mb σ) : hp_mb (hp_ret l σ).1 := by
  cases l with
  | nil => exact hm
  | cons q l => obtain ⟨r, k⟩ := q; exact hm
theorem hp_doc_mb (r k : Nat) (l : List (Nat × Nat)) (σ : hp_S) (hm : hp_mb σ) : hp_mb (hp_doc C h ta lo r k l σ).1 := by
  by_cases a1 : hp_bg σ = 300
  · rw [hp_doc, if_pos a1]; exact hp_res_mb _ _ _ hm
  have hm2 : hp_mb (hp_beg (hp_wr 3 (hp_wr 2 σ))) := ⟨hm.1, by have := hm.2; show hp_bg σ + 1 ≤ 300; omega⟩
  by_cases a2 : 1000 ≤ C r k
  · by_cases a3 : l.length + 1 < 6
    · rw [hp_doc, if_neg a1, if_pos a2, if_pos a3]
      refine ⟨?_, hm2.2⟩
      have := hm.1
      show (if σ.2.2.1 < l.length + 2 then l.length + 2 else σ.2.2.1) ≤ 6
      split <;> omega
    · rw [hp_doc, if_neg a1, if_pos a2, if_neg a3]; exact hp_res_mb _ _ _ hm2
  by_cases a4 : 0 < C r k
  · by_cases a5 : C r k = ta
    · rw [hp_doc, if_neg a1, if_neg a2, if_pos a4, if_pos a5]; exact hp_res_mb _ _ _ hm2
    · rw [hp_doc, if_neg a1, if_neg a2, if_pos a4, if_neg a5]; exact hm2
  by_cases a6 : C r k < -9
  · by_cases a7 : 3 < (-10 - C r k).toNatClampNeg
    · rw [hp_doc, if_neg a1, if_neg a2, if_neg a4, if_pos a6, if_pos a7]; exact hp_res_mb _ _ _ hm2
    · by_cases a8 : h (-10 - C r k).toNatClampNeg = 0
      · rw [hp_doc, if_neg a1, if_neg a2, if_neg a4, if_pos a6, if_neg a7, if_pos a8]; exact hp_res_mb _ _ _ hm2
      · rw [hp_doc, if_neg a1, if_neg a2, if_neg a4, if_pos a6, if_neg a7, if_neg a8]; exact hm2
  by_cases a9 : C r k = -1
  · rw [hp_doc, if_neg a1, if_neg a2, if_neg a4, if_neg a6, if_pos a9]; exact hp_res_mb _ _ _ hm2
  by_cases b1 : C r k = -2
  · rw [hp_doc, if_neg a1, if_neg a2, if_neg a4, if_neg a6, if_neg a9, if_pos b1]; exact hp_ret_mb _ _ hm2
  by_cases b2 : C r k = -3
  · rw [hp_doc, if_neg a1, if_neg a2, if_neg a4, if_neg a6, if_neg a9, if_neg b1, if_pos b2]; exact hm2
  · rw [hp_doc, if_neg a1, if_neg a2, if_neg a4, if_neg a6, if_neg a9, if_neg b1, if_neg b2]; exact hp_ret_mb _ _ hm2
theorem hp_step_mb (t : hp_T) (hm : hp_mb t.1) : hp_mb (hp_step M C h ta lo t).1 := by
  obtain ⟨σ, l, o⟩ := t
  cases l with
  | nil => exact hm
  | cons q l =>
    obtain ⟨r, k⟩ := q
    by_cases a : k = M r
    · rw [hp_step, if_pos a]; exact hp_ret_mb _ _ hm
    · rw [hp_step, if_neg a]; exact hp_doc_mb _ _ _ _ hm
/-- what lifts(r), help(j), barrel(n), leaves(n) do -/
def hp_lifts (C : Nat → Nat → Int32) (rr r k : Nat) (l : List (Nat × Nat)) (σ : hp_S) : hp_T :=
  if l.length + 1 < 6 then (hp_wr 1 (hp_mrs (l.length + 2) σ), (rr, 0) :: (r, k) :: l, none) else hp_res C ((r, k) :: l) (6, []) (hp_exc σ)
def hp_help (C : Nat → Nat → Int32) (h : Nat → Int32) (j r k : Nat) (l : List (Nat × Nat)) (σ : hp_S) : hp_T :=
  if 3 < j then hp_up C l (4, []) (hp_exc σ) else if h j = 0 then hp_up C l (3, []) (hp_exc σ) else (hp_wr 5 (hp_cl (hp_add (h j) σ)), (r, k + 1) :: l, none)
def hp_barrel (C : Nat → Nat → Int32) (ta lo n : Int32) (r k : Nat) (l : List (Nat × Nat)) (σ : hp_S) : hp_T :=
  if n = ta then hp_up C l (2, []) (hp_exc σ) else (hp_wr 5 (hp_cl (hp_add (lo / (n - ta)) σ)), (r, k + 1) :: l, none)
def hp_leaves (C : Nat → Nat → Int32) (n : Int32) (r k : Nat) (l : List (Nat × Nat)) (σ : hp_S) : hp_T :=
  if n = -1 then hp_up C l (1, []) (hp_exc σ) else if n = -2 then hp_ret l (hp_wr (-1) (hp_add 1 (hp_wr 4 (hp_cl σ)))) else if n = -3 then (hp_cl σ, (r, k + 1) :: l, none) else hp_ret l (hp_wr (-1) (hp_cl σ))
theorem hp_doc_eq (r k : Nat) (l : List (Nat × Nat)) (σ : hp_S) : hp_doc C h ta lo r k l σ =
    if hp_bg σ = 300 then hp_up C l (7, []) (hp_exc (hp_wr 3 (hp_wr 2 σ)))
    else if 1000 ≤ C r k then hp_lifts C ((C r k).toNatClampNeg % 1000) r k l (hp_beg (hp_wr 3 (hp_wr 2 σ)))
    else if 0 < C r k then hp_barrel C ta lo (C r k) r k l (hp_beg (hp_wr 3 (hp_wr 2 σ)))
    else if C r k < -9 then hp_help C h (-10 - C r k).toNatClampNeg r k l (hp_beg (hp_wr 3 (hp_wr 2 σ)))
    else hp_leaves C (C r k) r k l (hp_beg (hp_wr 3 (hp_wr 2 σ))) := rfl
end HPR
end
section
/-! THE REFERENCE's PRIVATE METHODS, to the end; its run -/
section HRV
theorem hp_res_gt {C : Nat → Nat → Int32} (q : Nat × Nat) (l : List (Nat × Nat)) (x : hp_X) (σ : hp_S) : hp_n σ + 3 ≤ hp_n (hp_res C (q :: l) x σ).1 := by
  obtain ⟨r, k⟩ := q
  by_cases a1 : x.1 = 7 ∨ C r k < 2000
  · rw [hp_res, if_pos a1]
    exact hp_res_ge l x (hp_wr (-1) (hp_cl σ))
  · by_cases a2 : C r k < 3000
    · rw [hp_res, if_neg a1, if_pos a2]
      exact hp_res_ge l _ (hp_wr (-1) (hp_cl (hp_exc σ)))
    · rw [hp_res, if_neg a1, if_neg a2]
      show hp_n σ + 3 ≤ hp_n σ + 4
      omega
theorem hp_ret_none (l : List (Nat × Nat)) (σ : hp_S) : (hp_ret l σ).2.2 = none := by
  cases l with
  | nil => rfl
  | cons q l => obtain ⟨r, k⟩ := q; rfl
theorem hp_leaves_ge {C : Nat → Nat → Int32} {n : Int32} {r k : Nat} {l : List (Nat × Nat)} {σ : hp_S} (c1 : ¬ n = -1) : hp_n σ + 2 ≤ hp_n (hp_leaves C n r k l σ).1 := by
  by_cases b1 : n = -2
  · have e : hp_leaves C n r k l σ = hp_ret l (hp_wr (-1) (hp_add 1 (hp_wr 4 (hp_cl σ)))) := by unfold hp_leaves; rw [if_neg c1, if_pos b1]
    rw [e]
    refine Nat.le_trans ?_ (hp_ret_ge _ _)
    show hp_n σ + 2 ≤ hp_n σ + 4; omega
  · by_cases b2 : n = -3
    · have e : hp_leaves C n r k l σ = (hp_cl σ, (r, k + 1) :: l, none) := by unfold hp_leaves; rw [if_neg c1, if_neg b1, if_pos b2]
      rw [e]
      exact Nat.le_refl _
    · have e : hp_leaves C n r k l σ = hp_ret l (hp_wr (-1) (hp_cl σ)) := by unfold hp_leaves; rw [if_neg c1, if_neg b1, if_neg b2]
      rw [e]
      refine Nat.le_trans ?_ (hp_ret_ge _ _)
      show hp_n σ + 2 ≤ hp_n σ + 3; omega
theorem hp_clamp_lt (x : Int32) : x.toNatClampNeg < 2 ^ 31 := by
  have h1 : x.toNatClampNeg = x.toInt.toNat := rfl
  have h2 := Int32.toInt_lt x
  omega
theorem hp_hand {c : Int32} (hok : hp_ok c) (h9 : c < -9) : 0 ≤ -10 - c ∧ (-10 - c).toNatClampNeg ≤ 5 := by
  have hi := hp_ok_int hok
  rw [hp_lt] at h9
  have e9 : (-9 : Int32).toInt = -9 := by decide
  have e10 : (-10 : Int32).toInt = -10 := by decide
  have e0 : (0 : Int32).toInt = 0 := by decide
  have es := hp_sub_int (c := -10) (z := c) (by omega) (by omega)
  have et : (-10 - c).toNatClampNeg = (-10 - c).toInt.toNat := rfl
  rw [hp_le, et, es]
  omega
set_option maxHeartbeats 4000000 in
theorem k_X2_finishes (l : Launch) {s0 : State} {D : va_G} {g : ClassId × ClassId × ClassId} (Z : hr_Z s0 D g) {m : Nat} (h0 : s0.heap.size ≤ m) {M : Nat → Nat} {C : Nat → Nat → Int32} {h : Nat → Int32} {ta lo : Int32} {f : Int32 × Int32 × Int32 × Int32} {σ : hp_S} {r k : Nat} {stk : List (Nat × Nat)} (hd : stk.length < 6) (hn : hp_n (hp_ret stk (hp_wr (-1) (hp_add 1 (hp_wr 4 σ)))).1 ≤ 6000) {sz : Nat} : hr_C l yX2_finishes (ws_ yX2_finishes cX2_finishes 1 none) (hr_L 4 0 0) s0 m 7 sz [.ref m] (fun H => hr_tR D g m M C h ta lo f σ ((r, k) :: stk) H) (hr_Qv (fun H => hr_tR D g m M C h ta lo f (hp_ret stk (hp_wr (-1) (hp_add 1 (hp_wr 4 σ)))).1 (hp_ret stk (hp_wr (-1) (hp_add 1 (hp_wr 4 σ)))).2.1 H)) 0 0 := by
  refine hr_meth (by decide) (Nat.le_of_ble_eq_true rfl) Z h0 ?_
  intro p e s m0 below meth c ls X hr hlk hnm htab hadm hsz hC hl
  have hl : lv_has ls 1 [(0, _)] := hl
  have hreg := hr_reg (lo := m) (n := 7) (sz := s.heap.size)
  have hS := hr_S0 (s := s) (lo := m) (n := 7)
  refine lv_aload_n X.ex X.by dX2_finishes_0 rfl (lv_at hl 0 rfl) ?_
  refine lv_iconst (v := 4) X.ex X.by dX2_finishes_1 (by decide) ?_
  refine c_X2_writes X hC (by have := hp_ret_ge stk (hp_wr (-1) (hp_add 1 (hp_wr 4 σ))); have e : hp_n (hp_wr (-1) (hp_add 1 (hp_wr 4 σ))) = hp_n σ + 2 := rfl; omega) hS hreg ⟨Nat.le_of_ble_eq_true rfl, Nat.le_of_ble_eq_true rfl⟩ ⟨Nat.zero_le _, Nat.zero_le _⟩ hl.1 (Nat.le_of_ble_eq_true rfl) dX2_finishes_2 (fun H locs hC hS => ?_)
  obtain ⟨rk, at', hk, hC⟩ := hC
  refine lv_aload_n X.ex X.by dX2_finishes_5 rfl (lv_at hl 0 rfl) ?_
  refine lv_dup X.ex X.by dX2_finishes_6 rfl ?_
  refine hr_tget X hC 5 (by decide) rfl q416 dX2_finishes_7 ?_
  refine lv_iconst (v := 1) X.ex X.by dX2_finishes_10 (by decide) ?_
  refine lv_iadd X.ex X.by dX2_finishes_11 ?_
  refine hr_tput X hC hS hreg 5 (by decide) (Nat.le_of_ble_eq_true rfl) rfl rfl q416 dX2_finishes_12 (fun H locs hC hS _ => ?_)
  refine lv_aload_n X.ex X.by dX2_finishes_15 rfl (lv_at hl 0 rfl) ?_
  have hC : hr_tR D g m M C h ta lo f (hp_add 1 (hp_wr 4 σ)) ((r, k) :: stk) _ := ⟨rk, at', hk, hC⟩
  refine c_X2_ends X hC hd hn hS hreg ⟨Nat.le_of_ble_eq_true rfl, Nat.le_of_ble_eq_true rfl⟩ ⟨Nat.zero_le _, Nat.zero_le _⟩ hl.1 (Nat.le_of_ble_eq_true rfl) dX2_finishes_16 (fun H locs hC hS => ?_)
  exact hr_vret X hr hlk hS ⟨rfl, hC⟩ (Nat.le_refl _) (Nat.le_refl _) dX2_finishes_19
theorem c_X2_finishes {p : Program} {l : Launch} {e : Env} {R : Room} {s : State} {m0 : MethodId} {args : Array Value} {below : List Frame} {meth : Method} {c : Code} {H : Heap} {locs : List Loc} {cells slots : Nat} {Q : State → Prop} {cc : ByteArray} {nL : Nat} {s0 : State} {D : va_G} {g : ClassId × ClassId × ClassId} {A : Nat → Prop} {pc : Nat} {ls : Array Slot} {rest : List Value} {m : Nat} (X : hr_X p s m0 args c cc nL RX2 s0 D g A) {M : Nat → Nat} {C : Nat → Nat → Int32} {h : Nat → Int32} {ta lo : Int32} {f : Int32 × Int32 × Int32 × Int32} {σ : hp_S} {r k : Nat} {stk : List (Nat × Nat)} (hC : hr_tR D g m M C h ta lo f σ ((r, k) :: stk) H) (hd : stk.length < 6) (hn : hp_n (hp_ret stk (hp_wr (-1) (hp_add 1 (hp_wr 4 σ)))).1 ≤ 6000) (hS : va_S A s.heap H locs) (hreg : ∀ q : Nat, m ≤ q → q < m + 7 → A q) (hR : 5 ≤ R.frames ∧ 200 ≤ R.locals) (hf : cells ≤ R.cells ∧ slots ≤ R.slots) (hsize : ls.size = nL) (hW : (rest.map fun v => v.category).sum ≤ 8) (hdg : decode cc pc = .ok (.invokevirtual 100, 3))
    (kk : ∀ (H1 : Heap) (locs1 : List Loc), hr_tR D g m M C h ta lo f (hp_ret stk (hp_wr (-1) (hp_add 1 (hp_wr 4 σ)))).1 (hp_ret stk (hp_wr (-1) (hp_add 1 (hp_wr 4 σ)))).2.1 H1 → va_S A s.heap H1 locs1 → W p l e R s m0 args below meth c H1 locs1 cells slots Q (F0 m0 (pc + 3) ls (rest))) : W p l e R s m0 args below meth c H locs cells slots Q (F0 m0 pc ls (.ref m :: rest)) :=
  hr_callVv X (k_X2_finishes l X.2.1 (X.2.2.2.1 m (hreg m (Nat.le_refl m) (by omega)))  hd hn) v_X2_finishes (lw_meth q507) hS hreg (hr_tR.recv X hC) hC rfl rfl (hr_lR (by decide) hR) hsize rfl hW hf hdg (fun H1 locs1 hP hS9 _ => kk H1 locs1 hP hS9)
set_option maxHeartbeats 4000000 in
theorem k_X2_lifts (l : Launch) {s0 : State} {D : va_G} {g : ClassId × ClassId × ClassId} (Z : hr_Z s0 D g) {m : Nat} (h0 : s0.heap.size ≤ m) {M : Nat → Nat} {C : Nat → Nat → Int32} {h : Nat → Int32} {ta lo : Int32} {σ : hp_S} {rr r k : Nat} {stk : List (Nat × Nat)} (hM : ∀ r, r < 8 → M r ≤ 12) (hlv : hp_lv M ((r, k) :: stk)) (hd : stk.length < 6) (hmr : σ.2.2.1 ≤ 6) (hn : hp_n (hp_lifts C rr r k stk σ).1 ≤ 6000) {sz : Nat} : hr_C l yX2_lifts (ws_ yX2_lifts cX2_lifts 2 none) (hr_L 4 0 0) s0 m 7 sz [.ref m, .int (nI rr)] (fun H => hr_tR D g m M C h ta lo (hp_fo none) σ ((r, k) :: stk) H) (hr_Qv (fun H => hr_tR D g m M C h ta lo (hp_fo (hp_lifts C rr r k stk σ).2.2) (hp_lifts C rr r k stk σ).1 (hp_lifts C rr r k stk σ).2.1 H)) 0 0 := by
  refine hr_meth (by decide) (Nat.le_of_ble_eq_true rfl) Z h0 ?_
  intro p e s m0 below meth c ls X hr hlk hnm htab hadm hsz hC hl
  have hl : lv_has ls 2 [(0, _), (1, _)] := hl
  have hreg := hr_reg (lo := m) (n := 7) (sz := s.heap.size)
  have hS := hr_S0 (s := s) (lo := m) (n := 7)
  obtain ⟨rk, at', hk, hC⟩ := hC
  refine lv_aload_n X.ex X.by dX2_lifts_0 rfl (lv_at hl 0 rfl) ?_
  refine hr_tget X hC 14 (by decide) rfl q425 dX2_lifts_1 ?_
  refine lv_bipush (v := 6) X.ex X.by dX2_lifts_4 (by decide) ?_
  refine lv_icmp_ge (tgt := 15) X.ex X.by dX2_lifts_6 (by decide) (fun c_6 => ?_) (fun c_6 => ?_)
  · have c6 : ¬ stk.length + 1 < 6 := fun z => absurd (show nI 6 ≤ nI (stk.length + 1) from c_6) (nI_ge z (by decide))
    have eR : hp_lifts C rr r k stk σ = hp_res C ((r, k) :: stk) (6, []) (hp_exc σ) := if_neg c6
    have hC : hr_tR D g m M C h ta lo (hp_fo none) σ ((r, k) :: stk) _ := ⟨rk, at', hk, hC⟩
    have hC := hC.exc
    have hn1 : hp_n (hp_exc σ) < 6000 := by
      rw [eR] at hn
      have e9 : hp_n (hp_exc σ) = hp_n σ := rfl
      have h1 := hp_res_gt (C := C) (r, k) stk (6, []) (hp_exc σ)
      omega
    refine lv_aload_n X.ex X.by dX2_lifts_15 rfl (lv_at hl 0 rfl) ?_
    refine lv_bipush (v := 6) X.ex X.by dX2_lifts_16 (by decide) ?_
    refine c_X2_fails X hC  hS hreg ⟨Nat.le_of_ble_eq_true rfl, Nat.le_of_ble_eq_true rfl⟩ ⟨Nat.zero_le _, Nat.zero_le _⟩ hl.1 (Nat.le_of_ble_eq_true rfl) dX2_lifts_18 (fun H locs hC hS => ?_)
    refine lv_aload_n X.ex X.by dX2_lifts_21 rfl (lv_at hl 0 rfl) ?_
    have hC : hr_tR D g m M C h ta lo (hp_f (6, [])) (hp_exc σ) ((r, k) :: stk) H := hC
    refine c_X2_takes X hC ⟨by decide, by decide, fun z => absurd z (by decide)⟩ hlv.hd.1 (Nat.lt_of_lt_of_le hlv.hd.2 (hM _ hlv.hd.1)) hd hn1 hS hreg ⟨Nat.le_of_ble_eq_true rfl, Nat.le_of_ble_eq_true rfl⟩ ⟨Nat.zero_le _, Nat.zero_le _⟩ hl.1 (Nat.le_of_ble_eq_true rfl) dX2_lifts_22 (fun r_22 H locs hC hS => ?_)
    rcases hC with ⟨hA, rfl, hC⟩ | ⟨hA, hB, rfl, hC⟩ | ⟨hA, hB, rfl, hC⟩
    · have eR2 : hp_lifts C rr r k stk σ = hp_up C stk (6, []) (hp_exc σ) := by rw [eR, hp_res, if_pos hA]; rfl
      refine lv_if_eq (tgt := 35) X.ex X.by dX2_lifts_25 (by decide) (fun c_25 => ?_) (fun c_25 => absurd rfl c_25)
      refine lv_aload_n X.ex X.by dX2_lifts_35 rfl (lv_at hl 0 rfl) ?_
      refine c_X2_up X hC hM ⟨by decide, by decide, fun z => absurd z (by decide)⟩ hlv.tl hd (by rw [← eR2]; exact hn) hS hreg ⟨Nat.le_of_ble_eq_true rfl, Nat.le_of_ble_eq_true rfl⟩ ⟨Nat.zero_le _, Nat.zero_le _⟩ hl.1 (Nat.le_of_ble_eq_true rfl) dX2_lifts_36 (fun H locs hC hS => ?_)
      rw [← eR2] at hC
      exact hr_vret X hr hlk hS ⟨rfl, hC⟩ (Nat.le_refl _) (Nat.le_refl _) dX2_lifts_39
    · have eR2 : hp_lifts C rr r k stk σ = hp_up C stk (6, (C r k - 2000).toNatClampNeg :: []) (hp_exc (hp_exc σ)) := by rw [eR, hp_res, if_neg hA, if_pos hB]; rfl
      have hC := hC.exc
      refine lv_if_eq (tgt := 35) X.ex X.by dX2_lifts_25 (by decide) (fun c_25 => ?_) (fun c_25 => absurd rfl c_25)
      refine lv_aload_n X.ex X.by dX2_lifts_35 rfl (lv_at hl 0 rfl) ?_
      refine c_X2_up X hC hM ⟨(by decide : 1 ≤ 6), (by decide : 6 ≤ 7), fun z => absurd (show (6 : Nat) = 7 from z) (by decide)⟩ hlv.tl hd (by rw [← eR2]; exact hn) hS hreg ⟨Nat.le_of_ble_eq_true rfl, Nat.le_of_ble_eq_true rfl⟩ ⟨Nat.zero_le _, Nat.zero_le _⟩ hl.1 (Nat.le_of_ble_eq_true rfl) dX2_lifts_36 (fun H locs hC hS => ?_)
      rw [← eR2] at hC
      exact hr_vret X hr hlk hS ⟨rfl, hC⟩ (Nat.le_refl _) (Nat.le_refl _) dX2_lifts_39
    · have eR2 : hp_lifts C rr r k stk σ = (hp_wr 5 (hp_cl (hp_add (nI (hp_code (6, []))) (hp_wr 7 (hp_exc σ)))), (r, k + 1) :: stk, none) := by rw [eR, hp_res, if_neg hA, if_neg hB]
      refine lv_if_eq (tgt := 35) X.ex X.by dX2_lifts_25 (by decide) (fun c_25 => absurd c_25 (by decide)) (fun c_25 => ?_)
      refine lv_aload_n X.ex X.by dX2_lifts_28 rfl (lv_at hl 0 rfl) ?_
      refine c_X2_passes X hC hd (by rw [eR2] at hn; exact hn) hS hreg ⟨Nat.le_of_ble_eq_true rfl, Nat.le_of_ble_eq_true rfl⟩ ⟨Nat.zero_le _, Nat.zero_le _⟩ hl.1 (Nat.le_of_ble_eq_true rfl) dX2_lifts_29 (fun H locs hC hS => ?_)
      refine lv_goto (tgt := 39) X.ex X.by dX2_lifts_32 (by decide) ?_
      rw [eR2]
      exact hr_vret X hr hlk hS ⟨rfl, hC⟩ (Nat.le_refl _) (Nat.le_refl _) dX2_lifts_39
  · have c6 : stk.length + 1 < 6 := Nat.lt_of_not_le (fun z => c_6 (show nI 6 ≤ nI (stk.length + 1) from nI_le z (by omega)))
    have eR : hp_lifts C rr r k stk σ = (hp_wr 1 (hp_mrs (stk.length + 2) σ), (rr, 0) :: (r, k) :: stk, none) := if_pos c6
    refine lv_aload_n X.ex X.by dX2_lifts_9 rfl (lv_at hl 0 rfl) ?_
    refine lv_iload_n X.ex X.by dX2_lifts_10 rfl (lv_at hl 1 rfl) ?_
    have hC : hr_tR D g m M C h ta lo (hp_fo none) σ ((r, k) :: stk) _ := ⟨rk, at', hk, hC⟩
    refine c_X2_begins X hC c6 hmr (by rw [eR] at hn; have e9 : hp_n (hp_wr 1 (hp_mrs (stk.length + 2) σ)) = hp_n σ + 1 := rfl; have h9 : hp_n (hp_wr 1 (hp_mrs (stk.length + 2) σ)) ≤ 6000 := hn; omega) hS hreg ⟨Nat.le_of_ble_eq_true rfl, Nat.le_of_ble_eq_true rfl⟩ ⟨Nat.zero_le _, Nat.zero_le _⟩ hl.1 (Nat.le_of_ble_eq_true rfl) dX2_lifts_11 (fun H locs hC hS => ?_)
    rw [eR]
    exact hr_vret X hr hlk hS ⟨rfl, hC⟩ (Nat.le_refl _) (Nat.le_refl _) dX2_lifts_14
theorem c_X2_lifts {p : Program} {l : Launch} {e : Env} {R : Room} {s : State} {m0 : MethodId} {args : Array Value} {below : List Frame} {meth : Method} {c : Code} {H : Heap} {locs : List Loc} {cells slots : Nat} {Q : State → Prop} {cc : ByteArray} {nL : Nat} {s0 : State} {D : va_G} {g : ClassId × ClassId × ClassId} {A : Nat → Prop} {pc : Nat} {ls : Array Slot} {rest : List Value} {m : Nat} (X : hr_X p s m0 args c cc nL RX2 s0 D g A) {M : Nat → Nat} {C : Nat → Nat → Int32} {h : Nat → Int32} {ta lo : Int32} {σ : hp_S} {rr r k : Nat} {stk : List (Nat × Nat)} (hC : hr_tR D g m M C h ta lo (hp_fo none) σ ((r, k) :: stk) H) (hM : ∀ r, r < 8 → M r ≤ 12) (hlv : hp_lv M ((r, k) :: stk)) (hd : stk.length < 6) (hmr : σ.2.2.1 ≤ 6) (hn : hp_n (hp_lifts C rr r k stk σ).1 ≤ 6000) (hS : va_S A s.heap H locs) (hreg : ∀ q : Nat, m ≤ q → q < m + 7 → A q) (hR : 5 ≤ R.frames ∧ 200 ≤ R.locals) (hf : cells ≤ R.cells ∧ slots ≤ R.slots) (hsize : ls.size = nL) (hW : (rest.map fun v => v.category).sum ≤ 8) (hdg : decode cc pc = .ok (.invokevirtual 106, 3))
    (kk : ∀ (H1 : Heap) (locs1 : List Loc), hr_tR D g m M C h ta lo (hp_fo (hp_lifts C rr r k stk σ).2.2) (hp_lifts C rr r k stk σ).1 (hp_lifts C rr r k stk σ).2.1 H1 → va_S A s.heap H1 locs1 → W p l e R s m0 args below meth c H1 locs1 cells slots Q (F0 m0 (pc + 3) ls (rest))) : W p l e R s m0 args below meth c H locs cells slots Q (F0 m0 pc ls (.int (nI rr) :: .ref m :: rest)) :=
  hr_callVv X (k_X2_lifts l X.2.1 (X.2.2.2.1 m (hreg m (Nat.le_refl m) (by omega)))  hM hlv hd hmr hn) v_X2_lifts (lw_meth q539) hS hreg (hr_tR.recv X hC) hC rfl rfl (hr_lR (by decide) hR) hsize rfl hW hf hdg (fun H1 locs1 hP hS9 _ => kk H1 locs1 hP hS9)
set_option maxHeartbeats 4000000 in
theorem k_X2_help (l : Launch) {s0 : State} {D : va_G} {g : ClassId × ClassId × ClassId} (Z : hr_Z s0 D g) {m : Nat} (h0 : s0.heap.size ≤ m) {M : Nat → Nat} {C : Nat → Nat → Int32} {h : Nat → Int32} {ta lo : Int32} {σ : hp_S} {j r k : Nat} {stk : List (Nat × Nat)} (hM : ∀ r, r < 8 → M r ≤ 12) (hj : j ≤ 5) (hlv : hp_lv M stk) (hd : stk.length < 6) (hn : hp_n (hp_help C h j r k stk σ).1 ≤ 6000) {sz : Nat} : hr_C l yX2_help (ws_ yX2_help cX2_help 2 none) (hr_L 4 0 0) s0 m 7 sz [.ref m, .int (nI j)] (fun H => hr_tR D g m M C h ta lo (hp_fo none) σ ((r, k) :: stk) H) (hr_Qv (fun H => hr_tR D g m M C h ta lo (hp_fo (hp_help C h j r k stk σ).2.2) (hp_help C h j r k stk σ).1 (hp_help C h j r k stk σ).2.1 H)) 0 0 := by
  refine hr_meth (by decide) (Nat.le_of_ble_eq_true rfl) Z h0 ?_
  intro p e s m0 below meth c ls X hr hlk hnm htab hadm hsz hC hl
  have hl : lv_has ls 2 [(0, _), (1, _)] := hl
  have hreg := hr_reg (lo := m) (n := 7) (sz := s.heap.size)
  have hS := hr_S0 (s := s) (lo := m) (n := 7)
  obtain ⟨rk, at', hk, hC⟩ := hC
  refine lv_iload_n X.ex X.by dX2_help_0 rfl (lv_at hl 1 rfl) ?_
  refine lv_iconst (v := 3) X.ex X.by dX2_help_1 (by decide) ?_
  refine lv_icmp_gt (tgt := 14) X.ex X.by dX2_help_2 (by decide) (fun c_2 => ?_) (fun c_2 => ?_)
  · have c3 : 3 < j := Nat.lt_of_not_le (fun z => absurd (show nI 3 < nI j from c_2) (Int32.not_lt.mpr (nI_le z (by decide))))
    have eR : hp_help C h j r k stk σ = hp_up C stk (4, []) (hp_exc σ) := if_pos c3
    refine lv_aload_n X.ex X.by dX2_help_14 rfl (lv_at hl 0 rfl) ?_
    refine lv_iload_n X.ex X.by dX2_help_15 rfl (lv_at hl 1 rfl) ?_
    refine lv_iconst (v := 3) X.ex X.by dX2_help_16 (by decide) ?_
    refine lv_icmp_le (tgt := 24) X.ex X.by dX2_help_17 (by decide) (fun c_17 => absurd c_17 (fun z => absurd c3 (Nat.not_lt.mpr (Nat.le_of_not_lt (fun y => absurd (show nI j ≤ nI 3 from z) (nI_ge y (by omega))))))) (fun c_17 => ?_)
    refine lv_iconst (v := 4) X.ex X.by dX2_help_20 (by decide) ?_
    refine lv_goto (tgt := 25) X.ex X.by dX2_help_21 (by decide) ?_
    have hC : hr_tR D g m M C h ta lo (hp_fo none) σ ((r, k) :: stk) _ := ⟨rk, at', hk, hC⟩
    have hC := hC.exc
    refine c_X2_fails X hC  hS hreg ⟨Nat.le_of_ble_eq_true rfl, Nat.le_of_ble_eq_true rfl⟩ ⟨Nat.zero_le _, Nat.zero_le _⟩ hl.1 (Nat.le_of_ble_eq_true rfl) dX2_help_25 (fun H locs hC hS => ?_)
    have hC : hr_tR D g m M C h ta lo (hp_f (4, [])) (hp_exc σ) ((r, k) :: stk) H := hC
    refine lv_aload_n X.ex X.by dX2_help_28 rfl (lv_at hl 0 rfl) ?_
    refine c_X2_up X hC hM ⟨by decide, by decide, fun _ => rfl⟩ hlv hd (by rw [← eR]; exact hn) hS hreg ⟨Nat.le_of_ble_eq_true rfl, Nat.le_of_ble_eq_true rfl⟩ ⟨Nat.zero_le _, Nat.zero_le _⟩ hl.1 (Nat.le_of_ble_eq_true rfl) dX2_help_29 (fun H locs hC hS => ?_)
    refine lv_goto (tgt := 54) X.ex X.by dX2_help_32 (by decide) ?_
    rw [← eR] at hC
    exact hr_vret X hr hlk hS ⟨rfl, hC⟩ (Nat.le_refl _) (Nat.le_refl _) dX2_help_54
  · have c3 : ¬ 3 < j := fun z => c_2 (show nI 3 < nI j from nI_lt z (by omega))
    refine lv_aload_n X.ex X.by dX2_help_5 rfl (lv_at hl 0 rfl) ?_
    refine hr_tget X hC 2 (by decide) rfl q413 dX2_help_6 ?_
    refine lv_iload_n X.ex X.by dX2_help_9 rfl (lv_at hl 1 rfl) ?_
    refine hr_iald X hC.2.2.2.1 rfl (by omega) (by decide) dX2_help_10 ?_
    refine lv_if_ne (tgt := 35) X.ex X.by dX2_help_11 (by decide) (fun c_11 => ?_) (fun c_11 => ?_)
    · have eR : hp_help C h j r k stk σ = (hp_wr 5 (hp_cl (hp_add (h j) σ)), (r, k + 1) :: stk, none) := by unfold hp_help; rw [if_neg c3, if_neg c_11]
      refine lv_aload_n X.ex X.by dX2_help_35 rfl (lv_at hl 0 rfl) ?_
      refine lv_dup X.ex X.by dX2_help_36 rfl ?_
      refine hr_tget X hC 5 (by decide) rfl q416 dX2_help_37 ?_
      refine lv_aload_n X.ex X.by dX2_help_40 rfl (lv_at hl 0 rfl) ?_
      refine hr_tget X hC 2 (by decide) rfl q413 dX2_help_41 ?_
      refine lv_iload_n X.ex X.by dX2_help_44 rfl (lv_at hl 1 rfl) ?_
      refine hr_iald X hC.2.2.2.1 rfl (by omega) (by decide) dX2_help_45 ?_
      refine lv_iadd X.ex X.by dX2_help_46 ?_
      refine hr_tput X hC hS hreg 5 (by decide) (Nat.le_of_ble_eq_true rfl) rfl rfl q416 dX2_help_47 (fun H locs hC hS _ => ?_)
      refine lv_aload_n X.ex X.by dX2_help_50 rfl (lv_at hl 0 rfl) ?_
      have hC : hr_tR D g m M C h ta lo (hp_fo none) (hp_add (h j) σ) ((r, k) :: stk) _ := ⟨rk, at', hk, hC⟩
      refine c_X2_passes X hC hd (by rw [eR] at hn; exact hn) hS hreg ⟨Nat.le_of_ble_eq_true rfl, Nat.le_of_ble_eq_true rfl⟩ ⟨Nat.zero_le _, Nat.zero_le _⟩ hl.1 (Nat.le_of_ble_eq_true rfl) dX2_help_51 (fun H locs hC hS => ?_)
      rw [eR]
      exact hr_vret X hr hlk hS ⟨rfl, hC⟩ (Nat.le_refl _) (Nat.le_refl _) dX2_help_54
    · have eR : hp_help C h j r k stk σ = hp_up C stk (3, []) (hp_exc σ) := by unfold hp_help; rw [if_neg c3, if_pos c_11]
      refine lv_aload_n X.ex X.by dX2_help_14 rfl (lv_at hl 0 rfl) ?_
      refine lv_iload_n X.ex X.by dX2_help_15 rfl (lv_at hl 1 rfl) ?_
      refine lv_iconst (v := 3) X.ex X.by dX2_help_16 (by decide) ?_
      refine lv_icmp_le (tgt := 24) X.ex X.by dX2_help_17 (by decide) (fun c_17 => ?_) (fun c_17 => absurd (show nI j ≤ nI 3 from nI_le (by omega) (by decide)) c_17)
      refine lv_iconst (v := 3) X.ex X.by dX2_help_24 (by decide) ?_
      have hC : hr_tR D g m M C h ta lo (hp_fo none) σ ((r, k) :: stk) _ := ⟨rk, at', hk, hC⟩
      have hC := hC.exc
      refine c_X2_fails X hC  hS hreg ⟨Nat.le_of_ble_eq_true rfl, Nat.le_of_ble_eq_true rfl⟩ ⟨Nat.zero_le _, Nat.zero_le _⟩ hl.1 (Nat.le_of_ble_eq_true rfl) dX2_help_25 (fun H locs hC hS => ?_)
      have hC : hr_tR D g m M C h ta lo (hp_f (3, [])) (hp_exc σ) ((r, k) :: stk) H := hC
      refine lv_aload_n X.ex X.by dX2_help_28 rfl (lv_at hl 0 rfl) ?_
      refine c_X2_up X hC hM ⟨by decide, by decide, fun _ => rfl⟩ hlv hd (by rw [← eR]; exact hn) hS hreg ⟨Nat.le_of_ble_eq_true rfl, Nat.le_of_ble_eq_true rfl⟩ ⟨Nat.zero_le _, Nat.zero_le _⟩ hl.1 (Nat.le_of_ble_eq_true rfl) dX2_help_29 (fun H locs hC hS => ?_)
      refine lv_goto (tgt := 54) X.ex X.by dX2_help_32 (by decide) ?_
      rw [← eR] at hC
      exact hr_vret X hr hlk hS ⟨rfl, hC⟩ (Nat.le_refl _) (Nat.le_refl _) dX2_help_54
theorem c_X2_help {p : Program} {l : Launch} {e : Env} {R : Room} {s : State} {m0 : MethodId} {args : Array Value} {below : List Frame} {meth : Method} {c : Code} {H : Heap} {locs : List Loc} {cells slots : Nat} {Q : State → Prop} {cc : ByteArray} {nL : Nat} {s0 : State} {D : va_G} {g : ClassId × ClassId × ClassId} {A : Nat → Prop} {pc : Nat} {ls : Array Slot} {rest : List Value} {m : Nat} (X : hr_X p s m0 args c cc nL RX2 s0 D g A) {M : Nat → Nat} {C : Nat → Nat → Int32} {h : Nat → Int32} {ta lo : Int32} {σ : hp_S} {j r k : Nat} {stk : List (Nat × Nat)} (hC : hr_tR D g m M C h ta lo (hp_fo none) σ ((r, k) :: stk) H) (hM : ∀ r, r < 8 → M r ≤ 12) (hj : j ≤ 5) (hlv : hp_lv M stk) (hd : stk.length < 6) (hn : hp_n (hp_help C h j r k stk σ).1 ≤ 6000) (hS : va_S A s.heap H locs) (hreg : ∀ q : Nat, m ≤ q → q < m + 7 → A q) (hR : 5 ≤ R.frames ∧ 200 ≤ R.locals) (hf : cells ≤ R.cells ∧ slots ≤ R.slots) (hsize : ls.size = nL) (hW : (rest.map fun v => v.category).sum ≤ 8) (hdg : decode cc pc = .ok (.invokevirtual 112, 3))
    (kk : ∀ (H1 : Heap) (locs1 : List Loc), hr_tR D g m M C h ta lo (hp_fo (hp_help C h j r k stk σ).2.2) (hp_help C h j r k stk σ).1 (hp_help C h j r k stk σ).2.1 H1 → va_S A s.heap H1 locs1 → W p l e R s m0 args below meth c H1 locs1 cells slots Q (F0 m0 (pc + 3) ls (rest))) : W p l e R s m0 args below meth c H locs cells slots Q (F0 m0 pc ls (.int (nI j) :: .ref m :: rest)) :=
  hr_callVv X (k_X2_help l X.2.1 (X.2.2.2.1 m (hreg m (Nat.le_refl m) (by omega)))  hM hj hlv hd hn) v_X2_help (lw_meth q547) hS hreg (hr_tR.recv X hC) hC rfl rfl (hr_lR (by decide) hR) hsize rfl hW hf hdg (fun H1 locs1 hP hS9 _ => kk H1 locs1 hP hS9)
set_option maxHeartbeats 4000000 in
theorem k_X2_barrel (l : Launch) {s0 : State} {D : va_G} {g : ClassId × ClassId × ClassId} (Z : hr_Z s0 D g) {m : Nat} (h0 : s0.heap.size ≤ m) {M : Nat → Nat} {C : Nat → Nat → Int32} {h : Nat → Int32} {ta lo : Int32} {σ : hp_S} {n : Int32} {r k : Nat} {stk : List (Nat × Nat)} (hM : ∀ r, r < 8 → M r ≤ 12) (hlv : hp_lv M stk) (hd : stk.length < 6) (hn : hp_n (hp_barrel C ta lo n r k stk σ).1 ≤ 6000) {sz : Nat} : hr_C l yX2_barrel (ws_ yX2_barrel cX2_barrel 2 none) (hr_L 4 0 0) s0 m 7 sz [.ref m, .int n] (fun H => hr_tR D g m M C h ta lo (hp_fo none) σ ((r, k) :: stk) H) (hr_Qv (fun H => hr_tR D g m M C h ta lo (hp_fo (hp_barrel C ta lo n r k stk σ).2.2) (hp_barrel C ta lo n r k stk σ).1 (hp_barrel C ta lo n r k stk σ).2.1 H)) 0 0 := by
  refine hr_meth (by decide) (Nat.le_of_ble_eq_true rfl) Z h0 ?_
  intro p e s m0 below meth c ls X hr hlk hnm htab hadm hsz hC hl
  have hl : lv_has ls 2 [(0, _), (1, _)] := hl
  have hreg := hr_reg (lo := m) (n := 7) (sz := s.heap.size)
  have hS := hr_S0 (s := s) (lo := m) (n := 7)
  obtain ⟨rk, at', hk, hC⟩ := hC
  refine lv_iload_n X.ex X.by dX2_barrel_0 rfl (lv_at hl 1 rfl) ?_
  refine lv_aload_n X.ex X.by dX2_barrel_1 rfl (lv_at hl 0 rfl) ?_
  refine hr_tget X hC 3 (by decide) rfl q414 dX2_barrel_2 ?_
  refine lv_icmp_ne (tgt := 20) X.ex X.by dX2_barrel_5 (by decide) (fun c_5 => ?_) (fun c_5 => ?_)
  · have eR : hp_barrel C ta lo n r k stk σ = (hp_wr 5 (hp_cl (hp_add (lo / (n - ta)) σ)), (r, k + 1) :: stk, none) := if_neg c_5
    refine lv_aload_n X.ex X.by dX2_barrel_20 rfl (lv_at hl 0 rfl) ?_
    refine lv_dup X.ex X.by dX2_barrel_21 rfl ?_
    refine hr_tget X hC 5 (by decide) rfl q416 dX2_barrel_22 ?_
    refine lv_aload_n X.ex X.by dX2_barrel_25 rfl (lv_at hl 0 rfl) ?_
    refine hr_tget X hC 4 (by decide) rfl q415 dX2_barrel_26 ?_
    refine lv_iload_n X.ex X.by dX2_barrel_29 rfl (lv_at hl 1 rfl) ?_
    refine lv_aload_n X.ex X.by dX2_barrel_30 rfl (lv_at hl 0 rfl) ?_
    refine hr_tget X hC 3 (by decide) rfl q414 dX2_barrel_31 ?_
    refine lv_isub X.ex X.by dX2_barrel_34 ?_
    refine lv_idiv X.ex X.by dX2_barrel_35 (fun z => c_5 (by have z2 : n - ta + ta = 0 + ta := (by rw [z]); simpa using z2)) ?_
    refine lv_iadd X.ex X.by dX2_barrel_36 ?_
    refine hr_tput X hC hS hreg 5 (by decide) (Nat.le_of_ble_eq_true rfl) rfl rfl q416 dX2_barrel_37 (fun H locs hC hS _ => ?_)
    refine lv_aload_n X.ex X.by dX2_barrel_40 rfl (lv_at hl 0 rfl) ?_
    have hC : hr_tR D g m M C h ta lo (hp_fo none) (hp_add (lo / (n - ta)) σ) ((r, k) :: stk) _ := ⟨rk, at', hk, hC⟩
    refine c_X2_passes X hC hd (by rw [eR] at hn; exact hn) hS hreg ⟨Nat.le_of_ble_eq_true rfl, Nat.le_of_ble_eq_true rfl⟩ ⟨Nat.zero_le _, Nat.zero_le _⟩ hl.1 (Nat.le_of_ble_eq_true rfl) dX2_barrel_41 (fun H locs hC hS => ?_)
    first
      | (rw [← eR] at hC
         exact hr_vret X hr hlk hS ⟨rfl, hC⟩ (Nat.le_refl _) (Nat.le_refl _) dX2_barrel_44)
      | (rw [eR]
         exact hr_vret X hr hlk hS ⟨rfl, hC⟩ (Nat.le_refl _) (Nat.le_refl _) dX2_barrel_44)
  · have eR : hp_barrel C ta lo n r k stk σ = hp_up C stk (2, []) (hp_exc σ) := if_pos c_5
    refine lv_aload_n X.ex X.by dX2_barrel_8 rfl (lv_at hl 0 rfl) ?_
    refine lv_iconst (v := 2) X.ex X.by dX2_barrel_9 (by decide) ?_
    have hC : hr_tR D g m M C h ta lo (hp_fo none) σ ((r, k) :: stk) _ := ⟨rk, at', hk, hC⟩
    have hC := hC.exc
    refine c_X2_fails X hC  hS hreg ⟨Nat.le_of_ble_eq_true rfl, Nat.le_of_ble_eq_true rfl⟩ ⟨Nat.zero_le _, Nat.zero_le _⟩ hl.1 (Nat.le_of_ble_eq_true rfl) dX2_barrel_10 (fun H locs hC hS => ?_)
    have hC : hr_tR D g m M C h ta lo (hp_f (2, [])) (hp_exc σ) ((r, k) :: stk) H := hC
    refine lv_aload_n X.ex X.by dX2_barrel_13 rfl (lv_at hl 0 rfl) ?_
    refine c_X2_up X hC hM ⟨by decide, by decide, fun _ => rfl⟩ hlv hd (by rw [← eR]; exact hn) hS hreg ⟨Nat.le_of_ble_eq_true rfl, Nat.le_of_ble_eq_true rfl⟩ ⟨Nat.zero_le _, Nat.zero_le _⟩ hl.1 (Nat.le_of_ble_eq_true rfl) dX2_barrel_14 (fun H locs hC hS => ?_)
    refine lv_goto (tgt := 44) X.ex X.by dX2_barrel_17 (by decide) ?_
    first
      | (rw [← eR] at hC
         exact hr_vret X hr hlk hS ⟨rfl, hC⟩ (Nat.le_refl _) (Nat.le_refl _) dX2_barrel_44)
      | (rw [eR]
         exact hr_vret X hr hlk hS ⟨rfl, hC⟩ (Nat.le_refl _) (Nat.le_refl _) dX2_barrel_44)
theorem c_X2_barrel {p : Program} {l : Launch} {e : Env} {R : Room} {s : State} {m0 : MethodId} {args : Array Value} {below : List Frame} {meth : Method} {c : Code} {H : Heap} {locs : List Loc} {cells slots : Nat} {Q : State → Prop} {cc : ByteArray} {nL : Nat} {s0 : State} {D : va_G} {g : ClassId × ClassId × ClassId} {A : Nat → Prop} {pc : Nat} {ls : Array Slot} {rest : List Value} {m : Nat} (X : hr_X p s m0 args c cc nL RX2 s0 D g A) {M : Nat → Nat} {C : Nat → Nat → Int32} {h : Nat → Int32} {ta lo : Int32} {σ : hp_S} {n : Int32} {r k : Nat} {stk : List (Nat × Nat)} (hC : hr_tR D g m M C h ta lo (hp_fo none) σ ((r, k) :: stk) H) (hM : ∀ r, r < 8 → M r ≤ 12) (hlv : hp_lv M stk) (hd : stk.length < 6) (hn : hp_n (hp_barrel C ta lo n r k stk σ).1 ≤ 6000) (hS : va_S A s.heap H locs) (hreg : ∀ q : Nat, m ≤ q → q < m + 7 → A q) (hR : 5 ≤ R.frames ∧ 200 ≤ R.locals) (hf : cells ≤ R.cells ∧ slots ≤ R.slots) (hsize : ls.size = nL) (hW : (rest.map fun v => v.category).sum ≤ 8) (hdg : decode cc pc = .ok (.invokevirtual 109, 3))
    (kk : ∀ (H1 : Heap) (locs1 : List Loc), hr_tR D g m M C h ta lo (hp_fo (hp_barrel C ta lo n r k stk σ).2.2) (hp_barrel C ta lo n r k stk σ).1 (hp_barrel C ta lo n r k stk σ).2.1 H1 → va_S A s.heap H1 locs1 → W p l e R s m0 args below meth c H1 locs1 cells slots Q (F0 m0 (pc + 3) ls (rest))) : W p l e R s m0 args below meth c H locs cells slots Q (F0 m0 pc ls (.int n :: .ref m :: rest)) :=
  hr_callVv X (k_X2_barrel l X.2.1 (X.2.2.2.1 m (hreg m (Nat.le_refl m) (by omega)))  hM hlv hd hn) v_X2_barrel (lw_meth q543) hS hreg (hr_tR.recv X hC) hC rfl rfl (hr_lR (by decide) hR) hsize rfl hW hf hdg (fun H1 locs1 hP hS9 _ => kk H1 locs1 hP hS9)
set_option maxHeartbeats 4000000 in
theorem k_X2_leaves (l : Launch) {s0 : State} {D : va_G} {g : ClassId × ClassId × ClassId} (Z : hr_Z s0 D g) {m : Nat} (h0 : s0.heap.size ≤ m) {M : Nat → Nat} {C : Nat → Nat → Int32} {h : Nat → Int32} {ta lo : Int32} {σ : hp_S} {n : Int32} {r k : Nat} {stk : List (Nat × Nat)} (hM : ∀ r, r < 8 → M r ≤ 12) (hlv : hp_lv M stk) (hd : stk.length < 6) (hn : hp_n (hp_leaves C n r k stk σ).1 ≤ 6000) {sz : Nat} : hr_C l yX2_leaves (ws_ yX2_leaves cX2_leaves 2 none) (hr_L 5 0 0) s0 m 7 sz [.ref m, .int n] (fun H => hr_tR D g m M C h ta lo (hp_fo none) σ ((r, k) :: stk) H) (hr_Qv (fun H => hr_tR D g m M C h ta lo (hp_fo (hp_leaves C n r k stk σ).2.2) (hp_leaves C n r k stk σ).1 (hp_leaves C n r k stk σ).2.1 H)) 0 0 := by
  refine hr_meth (by decide) (Nat.le_of_ble_eq_true rfl) Z h0 ?_
  intro p e s m0 below meth c ls X hr hlk hnm htab hadm hsz hC hl
  have hl : lv_has ls 2 [(0, _), (1, _)] := hl
  have hreg := hr_reg (lo := m) (n := 7) (sz := s.heap.size)
  have hS := hr_S0 (s := s) (lo := m) (n := 7)
  refine lv_iload_n X.ex X.by dX2_leaves_0 rfl (lv_at hl 1 rfl) ?_
  refine lv_iconst (v := (-1)) X.ex X.by dX2_leaves_1 (by decide) ?_
  refine lv_icmp_ne (tgt := 15) X.ex X.by dX2_leaves_2 (by decide) (fun c_2 => ?_) (fun c_2 => ?_)
  · have c1 := c_2
    refine lv_aload_n X.ex X.by dX2_leaves_15 rfl (lv_at hl 0 rfl) ?_
    refine c_X2_closes X hC (by have h9 : hp_n σ + 2 ≤ hp_n (hp_leaves C n r k stk σ).1 := hp_leaves_ge c1; omega) hS hreg ⟨Nat.le_of_ble_eq_true rfl, Nat.le_of_ble_eq_true rfl⟩ ⟨Nat.zero_le _, Nat.zero_le _⟩ hl.1 (Nat.le_of_ble_eq_true rfl) dX2_leaves_16 (fun H locs hC hS => ?_)
    refine lv_iload_n X.ex X.by dX2_leaves_19 rfl (lv_at hl 1 rfl) ?_
    refine lv_bipush (v := (-2)) X.ex X.by dX2_leaves_20 (by decide) ?_
    refine lv_icmp_ne (tgt := 32) X.ex X.by dX2_leaves_22 (by decide) (fun c_22 => ?_) (fun c_22 => ?_)
    · refine lv_iload_n X.ex X.by dX2_leaves_32 rfl (lv_at hl 1 rfl) ?_
      refine lv_bipush (v := (-3)) X.ex X.by dX2_leaves_33 (by decide) ?_
      refine lv_icmp_ne (tgt := 56) X.ex X.by dX2_leaves_35 (by decide) (fun c_35 => ?_) (fun c_35 => ?_)
      · have eR : hp_leaves C n r k stk σ = hp_ret stk (hp_wr (-1) (hp_cl σ)) := by unfold hp_leaves; rw [if_neg c1, if_neg c_22, if_neg c_35]
        refine lv_aload_n X.ex X.by dX2_leaves_56 rfl (lv_at hl 0 rfl) ?_
        refine c_X2_ends X hC hd (by rw [← eR]; exact hn) hS hreg ⟨Nat.le_of_ble_eq_true rfl, Nat.le_of_ble_eq_true rfl⟩ ⟨Nat.zero_le _, Nat.zero_le _⟩ hl.1 (Nat.le_of_ble_eq_true rfl) dX2_leaves_57 (fun H locs hC hS => ?_)
        first
          | (rw [hk.2.1, nI_1] at hC
             rw [eR]
             exact hr_vret X hr hlk hS ⟨rfl, rk, _, hk.at (k + 1), hC⟩ (Nat.le_refl _) (Nat.le_refl _) dX2_leaves_60)
          | (rw [eR, hp_ret_none]
             exact hr_vret X hr hlk hS ⟨rfl, hC⟩ (Nat.le_refl _) (Nat.le_refl _) dX2_leaves_60)
      · have eR : hp_leaves C n r k stk σ = (hp_cl σ, (r, k + 1) :: stk, none) := by unfold hp_leaves; rw [if_neg c1, if_neg c_22, if_pos c_35]
        obtain ⟨rk, at', hk, hC⟩ := hC
        refine lv_aload_n X.ex X.by dX2_leaves_38 rfl (lv_at hl 0 rfl) ?_
        refine hr_tget X hC 16 (by decide) rfl q427 dX2_leaves_39 ?_
        refine lv_aload_n X.ex X.by dX2_leaves_42 rfl (lv_at hl 0 rfl) ?_
        refine hr_tget X hC 14 (by decide) rfl q425 dX2_leaves_43 ?_
        refine lv_iconst (v := 1) X.ex X.by dX2_leaves_46 (by decide) ?_
        refine lv_isub X.ex X.by dX2_leaves_47 ?_
        refine lv_dup2_11 X.ex X.by dX2_leaves_48 rfl rfl ?_
        refine hr_iald X hC.2.2.2.2.2.2 (by show nI (stk.length + 1) - 1 = nI stk.length; exact nI_pred _) hd (by decide) dX2_leaves_49 ?_
        refine lv_iconst (v := 1) X.ex X.by dX2_leaves_50 (by decide) ?_
        refine lv_iadd X.ex X.by dX2_leaves_51 ?_
        refine hr_tast X hC hS hreg (by show nI (stk.length + 1) - 1 = nI stk.length; exact nI_pred _) hd dX2_leaves_52 (fun H locs hC hS _ => ?_)
        refine lv_goto (tgt := 60) X.ex X.by dX2_leaves_53 (by decide) ?_
        first
          | (rw [hk.2.1, nI_1] at hC
             rw [eR]
             exact hr_vret X hr hlk hS ⟨rfl, rk, _, hk.at (k + 1), hC⟩ (Nat.le_refl _) (Nat.le_refl _) dX2_leaves_60)
          | (rw [eR, hp_ret_none]
             exact hr_vret X hr hlk hS ⟨rfl, hC⟩ (Nat.le_refl _) (Nat.le_refl _) dX2_leaves_60)
    · have eR : hp_leaves C n r k stk σ = hp_ret stk (hp_wr (-1) (hp_add 1 (hp_wr 4 (hp_cl σ)))) := by unfold hp_leaves; rw [if_neg c1, if_pos c_22]
      refine lv_aload_n X.ex X.by dX2_leaves_25 rfl (lv_at hl 0 rfl) ?_
      refine c_X2_finishes X hC hd (by rw [← eR]; exact hn) hS hreg ⟨Nat.le_of_ble_eq_true rfl, Nat.le_of_ble_eq_true rfl⟩ ⟨Nat.zero_le _, Nat.zero_le _⟩ hl.1 (Nat.le_of_ble_eq_true rfl) dX2_leaves_26 (fun H locs hC hS => ?_)
      refine lv_goto (tgt := 60) X.ex X.by dX2_leaves_29 (by decide) ?_
      first
        | (rw [hk.2.1, nI_1] at hC
           rw [eR]
           exact hr_vret X hr hlk hS ⟨rfl, rk, _, hk.at (k + 1), hC⟩ (Nat.le_refl _) (Nat.le_refl _) dX2_leaves_60)
        | (rw [eR, hp_ret_none]
           exact hr_vret X hr hlk hS ⟨rfl, hC⟩ (Nat.le_refl _) (Nat.le_refl _) dX2_leaves_60)
  · have eR : hp_leaves C n r k stk σ = hp_up C stk (1, []) (hp_exc σ) := if_pos c_2
    refine lv_aload_n X.ex X.by dX2_leaves_5 rfl (lv_at hl 0 rfl) ?_
    refine lv_iconst (v := 1) X.ex X.by dX2_leaves_6 (by decide) ?_
    have hC := hC.exc
    refine c_X2_fails X hC  hS hreg ⟨Nat.le_of_ble_eq_true rfl, Nat.le_of_ble_eq_true rfl⟩ ⟨Nat.zero_le _, Nat.zero_le _⟩ hl.1 (Nat.le_of_ble_eq_true rfl) dX2_leaves_7 (fun H locs hC hS => ?_)
    have hC : hr_tR D g m M C h ta lo (hp_f (1, [])) (hp_exc σ) ((r, k) :: stk) H := hC
    refine lv_aload_n X.ex X.by dX2_leaves_10 rfl (lv_at hl 0 rfl) ?_
    refine c_X2_up X hC hM ⟨by decide, by decide, fun _ => rfl⟩ hlv hd (by rw [← eR]; exact hn) hS hreg ⟨Nat.le_of_ble_eq_true rfl, Nat.le_of_ble_eq_true rfl⟩ ⟨Nat.zero_le _, Nat.zero_le _⟩ hl.1 (Nat.le_of_ble_eq_true rfl) dX2_leaves_11 (fun H locs hC hS => ?_)
    rw [← eR] at hC
    exact hr_vret X hr hlk hS ⟨rfl, hC⟩ (Nat.le_refl _) (Nat.le_refl _) dX2_leaves_14
theorem c_X2_leaves {p : Program} {l : Launch} {e : Env} {R : Room} {s : State} {m0 : MethodId} {args : Array Value} {below : List Frame} {meth : Method} {c : Code} {H : Heap} {locs : List Loc} {cells slots : Nat} {Q : State → Prop} {cc : ByteArray} {nL : Nat} {s0 : State} {D : va_G} {g : ClassId × ClassId × ClassId} {A : Nat → Prop} {pc : Nat} {ls : Array Slot} {rest : List Value} {m : Nat} (X : hr_X p s m0 args c cc nL RX2 s0 D g A) {M : Nat → Nat} {C : Nat → Nat → Int32} {h : Nat → Int32} {ta lo : Int32} {σ : hp_S} {n : Int32} {r k : Nat} {stk : List (Nat × Nat)} (hC : hr_tR D g m M C h ta lo (hp_fo none) σ ((r, k) :: stk) H) (hM : ∀ r, r < 8 → M r ≤ 12) (hlv : hp_lv M stk) (hd : stk.length < 6) (hn : hp_n (hp_leaves C n r k stk σ).1 ≤ 6000) (hS : va_S A s.heap H locs) (hreg : ∀ q : Nat, m ≤ q → q < m + 7 → A q) (hR : 6 ≤ R.frames ∧ 240 ≤ R.locals) (hf : cells ≤ R.cells ∧ slots ≤ R.slots) (hsize : ls.size = nL) (hW : (rest.map fun v => v.category).sum ≤ 8) (hdg : decode cc pc = .ok (.invokevirtual 115, 3))
    (kk : ∀ (H1 : Heap) (locs1 : List Loc), hr_tR D g m M C h ta lo (hp_fo (hp_leaves C n r k stk σ).2.2) (hp_leaves C n r k stk σ).1 (hp_leaves C n r k stk σ).2.1 H1 → va_S A s.heap H1 locs1 → W p l e R s m0 args below meth c H1 locs1 cells slots Q (F0 m0 (pc + 3) ls (rest))) : W p l e R s m0 args below meth c H locs cells slots Q (F0 m0 pc ls (.int n :: .ref m :: rest)) :=
  hr_callVv X (k_X2_leaves l X.2.1 (X.2.2.2.1 m (hreg m (Nat.le_refl m) (by omega)))  hM hlv hd hn) v_X2_leaves (lw_meth q551) hS hreg (hr_tR.recv X hC) hC rfl rfl (hr_lR (by decide) hR) hsize rfl hW hf hdg (fun H1 locs1 hP hS9 _ => kk H1 locs1 hP hS9)
set_option maxHeartbeats 4000000 in
theorem k_X2_doCell (l : Launch) {s0 : State} {D : va_G} {g : ClassId × ClassId × ClassId} (Z : hr_Z s0 D g) {m : Nat} (h0 : s0.heap.size ≤ m) {M : Nat → Nat} {C : Nat → Nat → Int32} {h : Nat → Int32} {ta lo : Int32} {σ : hp_S} {r k : Nat} {stk : List (Nat × Nat)} (hM : ∀ r, r < 8 → M r ≤ 12) (hr8 : r < 8) (hkM : k < M r) (hok : hp_ok (C r k)) (hlv : hp_lv M stk) (hlv2 : hp_lv M ((r, k) :: stk)) (hd : stk.length < 6) (hmb : hp_mb σ) (hn : hp_n (hp_doc C h ta lo r k stk σ).1 ≤ 6000) {sz : Nat} : hr_C l yX2_doCell (ws_ yX2_doCell cX2_doCell 2 none) (hr_L 6 0 0) s0 m 7 sz [.ref m] (fun H => hr_tR D g m M C h ta lo (hp_fo none) σ ((r, k) :: stk) H) (hr_Qv (fun H => hr_tR D g m M C h ta lo (hp_fo (hp_doc C h ta lo r k stk σ).2.2) (hp_doc C h ta lo r k stk σ).1 (hp_doc C h ta lo r k stk σ).2.1 H)) 0 0 := by
  refine hr_meth (by decide) (Nat.le_of_ble_eq_true rfl) Z h0 ?_
  intro p e s m0 below meth c ls X hr hlk hnm htab hadm hsz hC hl
  have hl : lv_has ls 2 [(0, _)] := hl
  have hreg := hr_reg (lo := m) (n := 7) (sz := s.heap.size)
  have hS := hr_S0 (s := s) (lo := m) (n := 7)
  have hn2 : hp_n σ + 2 ≤ 6000 := by
    have := hp_doc_ge (C := C) (h := h) (ta := ta) (lo := lo) r k stk σ
    omega
  refine lv_aload_n X.ex X.by dX2_doCell_0 rfl (lv_at hl 0 rfl) ?_
  refine lv_iconst (v := 2) X.ex X.by dX2_doCell_1 (by decide) ?_
  refine c_X2_writes X hC (by omega) hS hreg ⟨Nat.le_of_ble_eq_true rfl, Nat.le_of_ble_eq_true rfl⟩ ⟨Nat.zero_le _, Nat.zero_le _⟩ hl.1 (Nat.le_of_ble_eq_true rfl) dX2_doCell_2 (fun H locs hC hS => ?_)
  refine lv_aload_n X.ex X.by dX2_doCell_5 rfl (lv_at hl 0 rfl) ?_
  refine lv_iconst (v := 3) X.ex X.by dX2_doCell_6 (by decide) ?_
  refine c_X2_writes X hC (by have e9 : hp_n (hp_wr 2 σ) = hp_n σ + 1 := rfl; omega) hS hreg ⟨Nat.le_of_ble_eq_true rfl, Nat.le_of_ble_eq_true rfl⟩ ⟨Nat.zero_le _, Nat.zero_le _⟩ hl.1 (Nat.le_of_ble_eq_true rfl) dX2_doCell_7 (fun H locs hC hS => ?_)
  obtain ⟨rk, at', hk, hC⟩ := hC
  refine lv_aload_n X.ex X.by dX2_doCell_10 rfl (lv_at hl 0 rfl) ?_
  refine hr_tget X hC 10 (by decide) rfl q421 dX2_doCell_11 ?_
  refine lv_sipush (v := 300) X.ex X.by dX2_doCell_14 (by decide) ?_
  refine lv_icmp_ne (tgt := 31) X.ex X.by dX2_doCell_17 (by decide) (fun c_17 => ?_) (fun c_17 => ?_)
  · have cb : ¬ hp_bg σ = 300 := fun z => c_17 (show nI (hp_bg σ) = 300 by rw [z]; rfl)
    refine lv_aload_n X.ex X.by dX2_doCell_31 rfl (lv_at hl 0 rfl) ?_
    refine lv_dup X.ex X.by dX2_doCell_32 rfl ?_
    refine hr_tget X hC 10 (by decide) rfl q421 dX2_doCell_33 ?_
    refine lv_iconst (v := 1) X.ex X.by dX2_doCell_36 (by decide) ?_
    refine lv_iadd X.ex X.by dX2_doCell_37 ?_
    refine hr_tput X hC hS hreg 10 (by decide) (Nat.le_of_ble_eq_true rfl) rfl rfl q421 dX2_doCell_38 (fun H locs hC hS _ => ?_)
    refine lv_aload_n X.ex X.by dX2_doCell_41 rfl (lv_at hl 0 rfl) ?_
    rw [nI_1] at hC
    have hC : hr_tR D g m M C h ta lo (hp_fo none) (hp_beg (hp_wr 3 (hp_wr 2 σ))) ((r, k) :: stk) _ := ⟨rk, at', hk, hC⟩
    refine c_X2_cellAtHand X hC hr8 (Nat.lt_of_lt_of_le hkM (hM _ hr8)) hd hS hreg ⟨Nat.le_of_ble_eq_true rfl, Nat.le_of_ble_eq_true rfl⟩ ⟨Nat.zero_le _, Nat.zero_le _⟩ hl.1 (Nat.le_of_ble_eq_true rfl) dX2_doCell_42 (fun r_42 H locs hC hS => ?_)
    obtain ⟨ev, hC⟩ := hC
    subst ev
    refine lv_istore_n X.ex X.by dX2_doCell_45 rfl hl (by decide) rfl (fun ls hl => ?_)
    have hl : lv_has ls 2 [(1, _), (0, _)] := hl
    refine lv_iload_n X.ex X.by dX2_doCell_46 rfl (lv_at hl 0 rfl) ?_
    refine lv_sipush (v := 1000) X.ex X.by dX2_doCell_47 (by decide) ?_
    refine lv_icmp_lt (tgt := 65) X.ex X.by dX2_doCell_50 (by decide) (fun c_50 => ?_) (fun c_50 => ?_)
    · have c10 : ¬ 1000 ≤ C r k := Int32.not_le.mpr c_50
      refine lv_iload_n X.ex X.by dX2_doCell_65 rfl (lv_at hl 0 rfl) ?_
      refine lv_if_le (tgt := 77) X.ex X.by dX2_doCell_66 (by decide) (fun c_66 => ?_) (fun c_66 => ?_)
      · have c0 : ¬ 0 < C r k := Int32.not_lt.mpr c_66
        refine lv_iload_n X.ex X.by dX2_doCell_77 rfl (lv_at hl 0 rfl) ?_
        refine lv_bipush (v := (-9)) X.ex X.by dX2_doCell_78 (by decide) ?_
        refine lv_icmp_ge (tgt := 94) X.ex X.by dX2_doCell_80 (by decide) (fun c_80 => ?_) (fun c_80 => ?_)
        · have c9 : ¬ C r k < -9 := Int32.not_lt.mpr c_80
          have eR : hp_doc C h ta lo r k stk σ = hp_leaves C (C r k) r k stk (hp_beg (hp_wr 3 (hp_wr 2 σ))) := by rw [hp_doc_eq, if_neg cb, if_neg c10, if_neg c0, if_neg c9]
          refine lv_aload_n X.ex X.by dX2_doCell_94 rfl (lv_at hl 1 rfl) ?_
          refine lv_iload_n X.ex X.by dX2_doCell_95 rfl (lv_at hl 0 rfl) ?_
          refine c_X2_leaves X hC hM hlv hd (by rw [← eR]; exact hn) hS hreg ⟨Nat.le_of_ble_eq_true rfl, Nat.le_of_ble_eq_true rfl⟩ ⟨Nat.zero_le _, Nat.zero_le _⟩ hl.1 (Nat.le_of_ble_eq_true rfl) dX2_doCell_96 (fun H locs hC hS => ?_)
          rw [← eR] at hC
          exact hr_vret X hr hlk hS ⟨rfl, hC⟩ (Nat.le_refl _) (Nat.le_refl _) dX2_doCell_99
        · have c9 : C r k < -9 := Int32.not_le.mp c_80
          have eR : hp_doc C h ta lo r k stk σ = hp_help C h (-10 - C r k).toNatClampNeg r k stk (hp_beg (hp_wr 3 (hp_wr 2 σ))) := by rw [hp_doc_eq, if_neg cb, if_neg c10, if_neg c0, if_pos c9]
          refine lv_aload_n X.ex X.by dX2_doCell_83 rfl (lv_at hl 1 rfl) ?_
          refine lv_bipush (v := (-10)) X.ex X.by dX2_doCell_84 (by decide) ?_
          refine lv_iload_n X.ex X.by dX2_doCell_86 rfl (lv_at hl 0 rfl) ?_
          refine lv_isub X.ex X.by dX2_doCell_87 ?_
          have ej : (-10 : Int32) - C r k = nI (-10 - C r k).toNatClampNeg := (hp_nI (hp_hand hok c9).1).symm
          rw [ej]
          refine c_X2_help X hC hM (hp_hand hok c9).2 hlv hd (by rw [← eR]; exact hn) hS hreg ⟨Nat.le_of_ble_eq_true rfl, Nat.le_of_ble_eq_true rfl⟩ ⟨Nat.zero_le _, Nat.zero_le _⟩ hl.1 (Nat.le_of_ble_eq_true rfl) dX2_doCell_88 (fun H locs hC hS => ?_)
          refine lv_goto (tgt := 99) X.ex X.by dX2_doCell_91 (by decide) ?_
          rw [← eR] at hC
          exact hr_vret X hr hlk hS ⟨rfl, hC⟩ (Nat.le_refl _) (Nat.le_refl _) dX2_doCell_99
      · have c0 : 0 < C r k := Int32.not_le.mp c_66
        have eR : hp_doc C h ta lo r k stk σ = hp_barrel C ta lo (C r k) r k stk (hp_beg (hp_wr 3 (hp_wr 2 σ))) := by rw [hp_doc_eq, if_neg cb, if_neg c10, if_pos c0]
        refine lv_aload_n X.ex X.by dX2_doCell_69 rfl (lv_at hl 1 rfl) ?_
        refine lv_iload_n X.ex X.by dX2_doCell_70 rfl (lv_at hl 0 rfl) ?_
        refine c_X2_barrel X hC hM hlv hd (by rw [← eR]; exact hn) hS hreg ⟨Nat.le_of_ble_eq_true rfl, Nat.le_of_ble_eq_true rfl⟩ ⟨Nat.zero_le _, Nat.zero_le _⟩ hl.1 (Nat.le_of_ble_eq_true rfl) dX2_doCell_71 (fun H locs hC hS => ?_)
        refine lv_goto (tgt := 99) X.ex X.by dX2_doCell_74 (by decide) ?_
        rw [← eR] at hC
        exact hr_vret X hr hlk hS ⟨rfl, hC⟩ (Nat.le_refl _) (Nat.le_refl _) dX2_doCell_99
    · have c10 : 1000 ≤ C r k := Int32.not_lt.mp c_50
      have eR : hp_doc C h ta lo r k stk σ = hp_lifts C ((C r k).toNatClampNeg % 1000) r k stk (hp_beg (hp_wr 3 (hp_wr 2 σ))) := by rw [hp_doc_eq, if_neg cb, if_pos c10]
      refine lv_aload_n X.ex X.by dX2_doCell_53 rfl (lv_at hl 1 rfl) ?_
      refine lv_iload_n X.ex X.by dX2_doCell_54 rfl (lv_at hl 0 rfl) ?_
      refine lv_sipush (v := 1000) X.ex X.by dX2_doCell_55 (by decide) ?_
      refine lv_irem X.ex X.by dX2_doCell_58 (by decide) ?_
      have ern : C r k - C r k / 1000 * 1000 = nI ((C r k).toNatClampNeg % 1000) := by
        have h9 := hp_nI (x := C r k) (Int32.le_trans (by decide) c10)
        have hlt : (C r k).toNatClampNeg < 2 ^ 31 := hp_clamp_lt _
        conv => lhs; rw [← h9]
        exact pk_rem hlt (by decide) (by decide)
      rw [ern]
      refine c_X2_lifts X hC hM hlv2 hd hmb.1 (by rw [← eR]; exact hn) hS hreg ⟨Nat.le_of_ble_eq_true rfl, Nat.le_of_ble_eq_true rfl⟩ ⟨Nat.zero_le _, Nat.zero_le _⟩ hl.1 (Nat.le_of_ble_eq_true rfl) dX2_doCell_59 (fun H locs hC hS => ?_)
      refine lv_goto (tgt := 99) X.ex X.by dX2_doCell_62 (by decide) ?_
      rw [← eR] at hC
      exact hr_vret X hr hlk hS ⟨rfl, hC⟩ (Nat.le_refl _) (Nat.le_refl _) dX2_doCell_99
  · have cb : hp_bg σ = 300 := (nI_eq (Nat.lt_of_le_of_lt hmb.2 (by decide)) (by decide)).mp (show nI (hp_bg σ) = nI 300 from c_17)
    have eR : hp_doc C h ta lo r k stk σ = hp_up C stk (7, []) (hp_exc (hp_wr 3 (hp_wr 2 σ))) := by rw [hp_doc_eq, if_pos cb]
    refine lv_aload_n X.ex X.by dX2_doCell_20 rfl (lv_at hl 0 rfl) ?_
    refine lv_bipush (v := 7) X.ex X.by dX2_doCell_21 (by decide) ?_
    have hC : hr_tR D g m M C h ta lo (hp_fo none) (hp_wr 3 (hp_wr 2 σ)) ((r, k) :: stk) _ := ⟨rk, at', hk, hC⟩
    have hC := hC.exc
    refine c_X2_fails X hC  hS hreg ⟨Nat.le_of_ble_eq_true rfl, Nat.le_of_ble_eq_true rfl⟩ ⟨Nat.zero_le _, Nat.zero_le _⟩ hl.1 (Nat.le_of_ble_eq_true rfl) dX2_doCell_23 (fun H locs hC hS => ?_)
    have hC : hr_tR D g m M C h ta lo (hp_f (7, [])) (hp_exc (hp_wr 3 (hp_wr 2 σ))) ((r, k) :: stk) H := hC
    refine lv_aload_n X.ex X.by dX2_doCell_26 rfl (lv_at hl 0 rfl) ?_
    refine c_X2_up X hC hM ⟨by decide, by decide, fun _ => rfl⟩ hlv hd (by rw [← eR]; exact hn) hS hreg ⟨Nat.le_of_ble_eq_true rfl, Nat.le_of_ble_eq_true rfl⟩ ⟨Nat.zero_le _, Nat.zero_le _⟩ hl.1 (Nat.le_of_ble_eq_true rfl) dX2_doCell_27 (fun H locs hC hS => ?_)
    rw [← eR] at hC
    exact hr_vret X hr hlk hS ⟨rfl, hC⟩ (Nat.le_refl _) (Nat.le_refl _) dX2_doCell_30
theorem c_X2_doCell {p : Program} {l : Launch} {e : Env} {R : Room} {s : State} {m0 : MethodId} {args : Array Value} {below : List Frame} {meth : Method} {c : Code} {H : Heap} {locs : List Loc} {cells slots : Nat} {Q : State → Prop} {cc : ByteArray} {nL : Nat} {s0 : State} {D : va_G} {g : ClassId × ClassId × ClassId} {A : Nat → Prop} {pc : Nat} {ls : Array Slot} {rest : List Value} {m : Nat} (X : hr_X p s m0 args c cc nL RX2 s0 D g A) {M : Nat → Nat} {C : Nat → Nat → Int32} {h : Nat → Int32} {ta lo : Int32} {σ : hp_S} {r k : Nat} {stk : List (Nat × Nat)} (hC : hr_tR D g m M C h ta lo (hp_fo none) σ ((r, k) :: stk) H) (hM : ∀ r, r < 8 → M r ≤ 12) (hr8 : r < 8) (hkM : k < M r) (hok : hp_ok (C r k)) (hlv : hp_lv M stk) (hlv2 : hp_lv M ((r, k) :: stk)) (hd : stk.length < 6) (hmb : hp_mb σ) (hn : hp_n (hp_doc C h ta lo r k stk σ).1 ≤ 6000) (hS : va_S A s.heap H locs) (hreg : ∀ q : Nat, m ≤ q → q < m + 7 → A q) (hR : 7 ≤ R.frames ∧ 280 ≤ R.locals) (hf : cells ≤ R.cells ∧ slots ≤ R.slots) (hsize : ls.size = nL) (hW : (rest.map fun v => v.category).sum ≤ 8) (hdg : decode cc pc = .ok (.invokevirtual 118, 3))
    (kk : ∀ (H1 : Heap) (locs1 : List Loc), hr_tR D g m M C h ta lo (hp_fo (hp_doc C h ta lo r k stk σ).2.2) (hp_doc C h ta lo r k stk σ).1 (hp_doc C h ta lo r k stk σ).2.1 H1 → va_S A s.heap H1 locs1 → W p l e R s m0 args below meth c H1 locs1 cells slots Q (F0 m0 (pc + 3) ls (rest))) : W p l e R s m0 args below meth c H locs cells slots Q (F0 m0 pc ls (.ref m :: rest)) :=
  hr_callVv X (k_X2_doCell l X.2.1 (X.2.2.2.1 m (hreg m (Nat.le_refl m) (by omega)))  hM hr8 hkM hok hlv hlv2 hd hmb hn) v_X2_doCell (lw_meth q523) hS hreg (hr_tR.recv X hC) hC rfl rfl (hr_lR (by decide) hR) hsize rfl hW hf hdg (fun H1 locs1 hP hS9 _ => kk H1 locs1 hP hS9)
end HRV
end
section
/-! THE SYSTEM's STATE BETWEEN CALLS, and what each call answers and leaves: one function a call, for the class and for the reference -/
section HPO
/-- how many cells a rack has, the cells, the hands, tare, load, the failure's four numbers, the run's numbers -/
abbrev hp_K : Type := (Nat → Nat) × (Nat → Nat → Int32) × (Nat → Int32) × Int32 × Int32 × (Int32 × Int32 × Int32 × Int32) × hp_S
abbrev hp_rk (r : Int32) : Prop := 0 ≤ r ∧ r ≤ 7
def hp_KV (K : hp_K) : Prop := (∀ r, r < 8 → K.1 r ≤ 12) ∧ (∀ r k, r < 8 → k < K.1 r → hp_ok (K.2.1 r k)) ∧ hp_n K.2.2.2.2.2.2 ≤ 2800
def hp_K0 : hp_K := (fun _ => 0, fun _ _ => 0, fun _ => 0, 0, 0, (0, 0, 0, -1), (0, 0, 0, 0, []))
def ho_cell (K : hp_K) (r c : Int32) : Int32 × hp_K :=
  if ¬ hp_rk r then (-101, K) else if ¬ hp_ok c then (-102, K) else if K.1 r.toNatClampNeg = 12 then (-103, K)
  else (nI (K.1 r.toNatClampNeg), va_up K.1 r.toNatClampNeg (K.1 r.toNatClampNeg + 1), va_up K.2.1 r.toNatClampNeg (upd (K.2.1 r.toNatClampNeg) (K.1 r.toNatClampNeg) c), K.2.2)
def ho_clear (K : hp_K) (r : Int32) : Int32 × hp_K :=
  if ¬ hp_rk r then (-101, K) else (nI (K.1 r.toNatClampNeg), va_up K.1 r.toNatClampNeg 0, K.2)
def ho_tare (K : hp_K) (t : Int32) : Int32 × hp_K :=
  if ¬ (0 ≤ t ∧ t ≤ 999) then (-102, K) else (K.2.2.2.1, K.1, K.2.1, K.2.2.1, t, K.2.2.2.2)
def ho_crew (K : hp_K) (k n : Int32) : Int32 × hp_K :=
  if ¬ (0 ≤ k ∧ k ≤ 3) then (-101, K) else if ¬ (0 ≤ n ∧ n ≤ 50) then (-102, K) else (K.2.2.1 k.toNatClampNeg, K.1, K.2.1, upd K.2.2.1 k.toNatClampNeg n, K.2.2.2)
/-- a run of the rack j with the load w -/
def hp_run (K : hp_K) (j : Nat) (w : Int32) : hp_R := hp_lift K.1 K.2.1 K.2.2.1 K.2.2.2.1 w 6 j (0, 0, 0, 0, [])
def ho_run (K : hp_K) (r w : Int32) : Int32 × hp_K :=
  if ¬ hp_rk r then (-101, K) else ((if (hp_run K r.toNatClampNeg w).1 = none then 1 else 0), K.1, K.2.1, K.2.2.1, K.2.2.2.1, w, hp_fo (hp_run K r.toNatClampNeg w).1, (hp_run K r.toNatClampNeg w).2)
def ho_told (K : hp_K) (w : Int32) : Int32 :=
  if w = 0 then K.2.2.2.2.2.2.1 else if w = 1 then K.2.2.2.2.2.1.1 else if w = 2 then K.2.2.2.2.2.1.2.1 else if w = 3 then K.2.2.2.2.2.1.2.2.1 else if w = 4 then K.2.2.2.2.2.1.2.2.2
  else if w = 5 then nI K.2.2.2.2.2.2.2.1 else if w = 6 then nI K.2.2.2.2.2.2.2.2.1 else if w = 7 then nI K.2.2.2.2.2.2.2.2.2.2.length else -101
def ho_note (K : hp_K) (i : Int32) : Int32 := if 0 ≤ i ∧ i ≤ nI (hp_n K.2.2.2.2.2.2) - 1 then hp_at K.2.2.2.2.2.2.2.2.2.2 i.toNatClampNeg else -101
def ho_held (w : Int32) : Int32 := if 0 ≤ w ∧ w ≤ 2 then 0 else -101
def ho_cells (K : hp_K) (r : Int32) : Int32 := if hp_rk r then nI (K.1 r.toNatClampNeg) else -101
theorem hp_rk_lt {r : Int32} (h : hp_rk r) : r.toNatClampNeg < 8 ∧ r = nI r.toNatClampNeg := by
  refine ⟨?_, (hp_nI h.1).symm⟩
  have h2 := h.2
  rw [hp_le] at h2
  have e7 : (7 : Int32).toInt = 7 := by decide
  have et : r.toNatClampNeg = r.toInt.toNat := rfl
  omega
theorem hp_in_lt {r : Int32} {n : Nat} (hn : n < 2 ^ 31) (h1 : 0 ≤ r) (h2 : r ≤ nI n) : r.toNatClampNeg < n + 1 ∧ r = nI r.toNatClampNeg := by
  refine ⟨?_, (hp_nI h1).symm⟩
  rw [hp_le, nI_toInt hn] at h2
  have et : r.toNatClampNeg = r.toInt.toNat := rfl
  omega
theorem hp_KV.zero : hp_KV hp_K0 := ⟨fun _ _ => Nat.zero_le _, fun _ _ _ h => absurd h (Nat.not_lt_zero _), Nat.zero_le _⟩
theorem hp_KV.cell {K : hp_K} (h : hp_KV K) (r c : Int32) : hp_KV (ho_cell K r c).2 := by
  unfold ho_cell
  split
  · exact h
  · split
    · exact h
    · split
      · exact h
      · next h1 h2 h3 =>
        have h1 : hp_rk r := Classical.not_not.mp h1
        have h2 : hp_ok c := Classical.not_not.mp h2
        have hj := (hp_rk_lt h1).1
        have hm := h.1 _ hj
        refine ⟨fun r' hr' => ?_, fun r' k hr' hk => ?_, h.2.2⟩
        · show va_up K.1 r.toNatClampNeg (K.1 r.toNatClampNeg + 1) r' ≤ 12
          by_cases e : r' = r.toNatClampNeg
          · simp only [va_up, e, if_true]; omega
          · simp only [va_up, e, if_false]; exact h.1 r' hr'
        · show hp_ok (va_up K.2.1 r.toNatClampNeg (upd (K.2.1 r.toNatClampNeg) (K.1 r.toNatClampNeg) c) r' k)
          have hk : k < va_up K.1 r.toNatClampNeg (K.1 r.toNatClampNeg + 1) r' := hk
          by_cases e : r' = r.toNatClampNeg
          · simp only [va_up, e, if_true] at hk ⊢
            by_cases e2 : k = K.1 r.toNatClampNeg
            · simp only [upd, e2, if_true]; exact h2
            · simp only [upd, e2, if_false]
              exact h.2.1 _ _ hj (by omega)
          · simp only [va_up, e, if_false] at hk ⊢
            exact h.2.1 _ _ hr' hk
theorem hp_KV.clear {K : hp_K} (h : hp_KV K) (r : Int32) : hp_KV (ho_clear K r).2 := by
  unfold ho_clear
  split
  · exact h
  · refine ⟨fun r' hr' => ?_, fun r' k hr' hk => ?_, h.2.2⟩
    · show va_up K.1 r.toNatClampNeg 0 r' ≤ 12
      by_cases e : r' = r.toNatClampNeg
      · simp only [va_up, e, if_true]; omega
      · simp only [va_up, e, if_false]; exact h.1 r' hr'
    · have hk : k < va_up K.1 r.toNatClampNeg 0 r' := hk
      by_cases e : r' = r.toNatClampNeg
      · simp only [va_up, e, if_true] at hk; exact absurd hk (Nat.not_lt_zero _)
      · simp only [va_up, e, if_false] at hk
        exact h.2.1 _ _ hr' hk
theorem hp_KV.tare {K : hp_K} (h : hp_KV K) (t : Int32) : hp_KV (ho_tare K t).2 := by
  unfold ho_tare
  split
  · exact h
  · exact h
theorem hp_KV.crew {K : hp_K} (h : hp_KV K) (k n : Int32) : hp_KV (ho_crew K k n).2 := by
  unfold ho_crew
  split
  · exact h
  · split
    · exact h
    · exact h
theorem hp_run_le (K : hp_K) (j : Nat) (w : Int32) : hp_n (hp_run K j w).2 ≤ 2707 ∧ hp_ex (hp_run K j w).2 ≤ 601 ∧ hp_bg (hp_run K j w).2 ≤ 300 := hp_whole j (0, 0, 0, 0, []) rfl rfl rfl
theorem hp_KV.run {K : hp_K} (h : hp_KV K) (r w : Int32) : hp_KV (ho_run K r w).2 := by
  unfold ho_run
  split
  · exact h
  · exact ⟨h.1, h.2.1, Nat.le_trans (hp_run_le K _ w).1 (by decide)⟩
end HPO
end
section
/-! THE REFERENCE's PUBLIC METHODS -/
section HRX
def hr_tK (D : va_G) (g : ClassId × ClassId × ClassId) (m : Nat) (K : hp_K) (H : Heap) : Prop := hr_tR D g m K.1 K.2.1 K.2.2.1 K.2.2.2.1 K.2.2.2.2.1 K.2.2.2.2.2.1 K.2.2.2.2.2.2 [] H
theorem hr_tw.clr {D : va_G} {g : ClassId × ClassId × ClassId} {m : Nat} {fs : List Value} {M : Nat → Nat} {C : Nat → Nat → Int32} {h : Nat → Int32} {js : List Int32} {rk at' : Nat → Int32} {H : Heap} (hT : hr_tw D g m fs M C h js rk at' H) : hr_tw D g m fs M C h [] rk at' H := by
  obtain ⟨h0, h1, h2, h3, ⟨N, h4, hj⟩, h5, h6⟩ := hT
  exact ⟨h0, h1, h2, h3, ⟨N, h4, trivial⟩, h5, h6⟩
theorem hr_cw.clr {D : va_G} {g : ClassId × ClassId × ClassId} {b z : Nat} {fs : List Value} {M : Nat → Nat} {C : Nat → Nat → Int32} {h : Nat → Int32} {js : List Int32} {H : Heap} (hC : hr_cw D g b z fs M C h js H) : hr_cw D g b z fs M C h [] H := by
  obtain ⟨hz, h0, h1, ⟨J, h3, hj⟩, h4, h5, G, h2, hG⟩ := hC
  exact ⟨hz, h0, h1, ⟨J, h3, trivial⟩, h4, h5, G, h2, hG⟩
theorem hp_tab8 {w : Int32} (h0 : ¬ w = 0) (h1 : ¬ w = 1) (h2 : ¬ w = 2) (h3 : ¬ w = 3) (h4 : ¬ w = 4) (h5 : ¬ w = 5) (h6 : ¬ w = 6) (h7 : ¬ w = 7) : w.toInt < 0 ∨ 7 < w.toInt := by
  rw [hp_eq] at h0 h1 h2 h3 h4 h5 h6 h7
  have e0 : (0 : Int32).toInt = 0 := by decide
  have e1 : (1 : Int32).toInt = 1 := by decide
  have e2 : (2 : Int32).toInt = 2 := by decide
  have e3 : (3 : Int32).toInt = 3 := by decide
  have e4 : (4 : Int32).toInt = 4 := by decide
  have e5 : (5 : Int32).toInt = 5 := by decide
  have e6 : (6 : Int32).toInt = 6 := by decide
  have e7 : (7 : Int32).toInt = 7 := by decide
  omega
theorem hp_note_lt {i : Int32} {n : Nat} (hn : n < 2 ^ 31) (hi : 0 ≤ i ∧ i ≤ nI n - 1) : i.toNatClampNeg < n ∧ i = nI i.toNatClampNeg := by
  cases n with
  | zero =>
    have h2 := hi.2
    have h1 := hi.1
    rw [hp_le] at h1 h2
    have e1 : (nI 0 - 1).toInt = -1 := by decide
    have e0 : (0 : Int32).toInt = 0 := by decide
    omega
  | succ n =>
    rw [nI_pred] at hi
    exact hp_in_lt (by omega) hi.1 hi.2
theorem hp_it_nil {M : Nat → Nat} {C : Nat → Nat → Int32} {h : Nat → Int32} {ta lo : Int32} (n : Nat) (σ : hp_S) (o : Option hp_X) : hp_it M C h ta lo n (σ, [], o) = (σ, [], o) := by
  induction n with
  | zero => rfl
  | succ n ih => exact ih
set_option maxHeartbeats 4000000 in
theorem k_X2_isCell (l : Launch) {s0 : State} {D : va_G} {g : ClassId × ClassId × ClassId} (Z : hr_Z s0 D g) (v : Int32) (H : Heap) : hr_C l yX2_isCell (ws_ yX2_isCell cX2_isCell 1 (some .boolean)) (hr_L 1 0 0) s0 s0.heap.size 0 H.size [.int v] (fun H' => H' = H) (hr_Qi (fun r H' => r = (if hp_ok v then 1 else 0) ∧ H' = H)) 0 0 := by
  refine hr_meth (by decide) (Nat.le_of_ble_eq_true rfl) Z (Nat.le_refl _) ?_
  intro p e s m below meth c ls X hr hlk hnm htab hadm hsz hC hl
  have hl : lv_has ls 1 [(0, _)] := hl
  have hS := hr_S0 (s := s) (lo := s0.heap.size) (n := 0)
  refine lv_iload_n X.ex X.by dX2_isCell_0 rfl (lv_at hl 0 rfl) ?_
  refine lv_iconst (v := 1) X.ex X.by dX2_isCell_1 (by decide) ?_
  refine lv_sipush (v := 999) X.ex X.by dX2_isCell_2 (by decide) ?_
  refine c_X2_in X hS ⟨Nat.le_of_ble_eq_true rfl, Nat.le_of_ble_eq_true rfl⟩ ⟨Nat.zero_le _, Nat.zero_le _⟩ hl.1 (Nat.le_of_ble_eq_true rfl) dX2_isCell_5 (fun locs hS => ?_)
  refine lv_if_ne (tgt := 71) X.ex X.by dX2_isCell_8 (by decide) (fun c_8 => ?_) (fun c_8 => ?_)
  · refine lv_iconst (v := 1) X.ex X.by dX2_isCell_71 (by decide) ?_
    refine lv_goto (tgt := 76) X.ex X.by dX2_isCell_72 (by decide) ?_
    refine hr_zret X hr hlk hS (by decide) ⟨_, rfl, ?_, hC⟩ (Nat.le_refl _) (Nat.le_refl _) dX2_isCell_76
    first
      | exact (if_pos (Or.inl (hr_if1 c_8))).symm
      | exact (if_pos (Or.inr (Or.inr (Or.inl (hr_if1 c_19))))).symm
      | exact (if_pos (Or.inr (Or.inl (hr_if1 c_29)))).symm
      | exact (if_pos (Or.inr (Or.inr (Or.inr (Or.inl (hr_if1 c_42)))))).symm
      | exact (if_pos (Or.inr (Or.inr (Or.inr (Or.inr (Or.inl (hr_if1 c_55))))))).symm
      | exact (if_pos (Or.inr (Or.inr (Or.inr (Or.inr (Or.inr (hr_if1 c_68))))))).symm
      | exact (if_neg (fun z => by rcases z with z | z | z | z | z | z; exact hr_if0 c_8 z; exact hr_if0 c_29 z; exact hr_if0 c_19 z; exact hr_if0 c_42 z; exact hr_if0 c_55 z; exact hr_if0 c_68 z)).symm
  · refine lv_iload_n X.ex X.by dX2_isCell_11 rfl (lv_at hl 0 rfl) ?_
    refine lv_bipush (v := (-15)) X.ex X.by dX2_isCell_12 (by decide) ?_
    refine lv_bipush (v := (-10)) X.ex X.by dX2_isCell_14 (by decide) ?_
    refine c_X2_in X hS ⟨Nat.le_of_ble_eq_true rfl, Nat.le_of_ble_eq_true rfl⟩ ⟨Nat.zero_le _, Nat.zero_le _⟩ hl.1 (Nat.le_of_ble_eq_true rfl) dX2_isCell_16 (fun locs hS => ?_)
    refine lv_if_ne (tgt := 71) X.ex X.by dX2_isCell_19 (by decide) (fun c_19 => ?_) (fun c_19 => ?_)
    · refine lv_iconst (v := 1) X.ex X.by dX2_isCell_71 (by decide) ?_
      refine lv_goto (tgt := 76) X.ex X.by dX2_isCell_72 (by decide) ?_
      refine hr_zret X hr hlk hS (by decide) ⟨_, rfl, ?_, hC⟩ (Nat.le_refl _) (Nat.le_refl _) dX2_isCell_76
      first
        | exact (if_pos (Or.inl (hr_if1 c_8))).symm
        | exact (if_pos (Or.inr (Or.inr (Or.inl (hr_if1 c_19))))).symm
        | exact (if_pos (Or.inr (Or.inl (hr_if1 c_29)))).symm
        | exact (if_pos (Or.inr (Or.inr (Or.inr (Or.inl (hr_if1 c_42)))))).symm
        | exact (if_pos (Or.inr (Or.inr (Or.inr (Or.inr (Or.inl (hr_if1 c_55))))))).symm
        | exact (if_pos (Or.inr (Or.inr (Or.inr (Or.inr (Or.inr (hr_if1 c_68))))))).symm
        | exact (if_neg (fun z => by rcases z with z | z | z | z | z | z; exact hr_if0 c_8 z; exact hr_if0 c_29 z; exact hr_if0 c_19 z; exact hr_if0 c_42 z; exact hr_if0 c_55 z; exact hr_if0 c_68 z)).symm
    · refine lv_iload_n X.ex X.by dX2_isCell_22 rfl (lv_at hl 0 rfl) ?_
      refine lv_bipush (v := (-4)) X.ex X.by dX2_isCell_23 (by decide) ?_
      refine lv_iconst (v := (-1)) X.ex X.by dX2_isCell_25 (by decide) ?_
      refine c_X2_in X hS ⟨Nat.le_of_ble_eq_true rfl, Nat.le_of_ble_eq_true rfl⟩ ⟨Nat.zero_le _, Nat.zero_le _⟩ hl.1 (Nat.le_of_ble_eq_true rfl) dX2_isCell_26 (fun locs hS => ?_)
      refine lv_if_ne (tgt := 71) X.ex X.by dX2_isCell_29 (by decide) (fun c_29 => ?_) (fun c_29 => ?_)
      · refine lv_iconst (v := 1) X.ex X.by dX2_isCell_71 (by decide) ?_
        refine lv_goto (tgt := 76) X.ex X.by dX2_isCell_72 (by decide) ?_
        refine hr_zret X hr hlk hS (by decide) ⟨_, rfl, ?_, hC⟩ (Nat.le_refl _) (Nat.le_refl _) dX2_isCell_76
        first
          | exact (if_pos (Or.inl (hr_if1 c_8))).symm
          | exact (if_pos (Or.inr (Or.inr (Or.inl (hr_if1 c_19))))).symm
          | exact (if_pos (Or.inr (Or.inl (hr_if1 c_29)))).symm
          | exact (if_pos (Or.inr (Or.inr (Or.inr (Or.inl (hr_if1 c_42)))))).symm
          | exact (if_pos (Or.inr (Or.inr (Or.inr (Or.inr (Or.inl (hr_if1 c_55))))))).symm
          | exact (if_pos (Or.inr (Or.inr (Or.inr (Or.inr (Or.inr (hr_if1 c_68))))))).symm
          | exact (if_neg (fun z => by rcases z with z | z | z | z | z | z; exact hr_if0 c_8 z; exact hr_if0 c_29 z; exact hr_if0 c_19 z; exact hr_if0 c_42 z; exact hr_if0 c_55 z; exact hr_if0 c_68 z)).symm
      · refine lv_iload_n X.ex X.by dX2_isCell_32 rfl (lv_at hl 0 rfl) ?_
        refine lv_sipush (v := 1000) X.ex X.by dX2_isCell_33 (by decide) ?_
        refine lv_sipush (v := 1007) X.ex X.by dX2_isCell_36 (by decide) ?_
        refine c_X2_in X hS ⟨Nat.le_of_ble_eq_true rfl, Nat.le_of_ble_eq_true rfl⟩ ⟨Nat.zero_le _, Nat.zero_le _⟩ hl.1 (Nat.le_of_ble_eq_true rfl) dX2_isCell_39 (fun locs hS => ?_)
        refine lv_if_ne (tgt := 71) X.ex X.by dX2_isCell_42 (by decide) (fun c_42 => ?_) (fun c_42 => ?_)
        · refine lv_iconst (v := 1) X.ex X.by dX2_isCell_71 (by decide) ?_
          refine lv_goto (tgt := 76) X.ex X.by dX2_isCell_72 (by decide) ?_
          refine hr_zret X hr hlk hS (by decide) ⟨_, rfl, ?_, hC⟩ (Nat.le_refl _) (Nat.le_refl _) dX2_isCell_76
          first
            | exact (if_pos (Or.inl (hr_if1 c_8))).symm
            | exact (if_pos (Or.inr (Or.inr (Or.inl (hr_if1 c_19))))).symm
            | exact (if_pos (Or.inr (Or.inl (hr_if1 c_29)))).symm
            | exact (if_pos (Or.inr (Or.inr (Or.inr (Or.inl (hr_if1 c_42)))))).symm
            | exact (if_pos (Or.inr (Or.inr (Or.inr (Or.inr (Or.inl (hr_if1 c_55))))))).symm
            | exact (if_pos (Or.inr (Or.inr (Or.inr (Or.inr (Or.inr (hr_if1 c_68))))))).symm
            | exact (if_neg (fun z => by rcases z with z | z | z | z | z | z; exact hr_if0 c_8 z; exact hr_if0 c_29 z; exact hr_if0 c_19 z; exact hr_if0 c_42 z; exact hr_if0 c_55 z; exact hr_if0 c_68 z)).symm
        · refine lv_iload_n X.ex X.by dX2_isCell_45 rfl (lv_at hl 0 rfl) ?_
          refine lv_sipush (v := 2000) X.ex X.by dX2_isCell_46 (by decide) ?_
          refine lv_sipush (v := 2007) X.ex X.by dX2_isCell_49 (by decide) ?_
          refine c_X2_in X hS ⟨Nat.le_of_ble_eq_true rfl, Nat.le_of_ble_eq_true rfl⟩ ⟨Nat.zero_le _, Nat.zero_le _⟩ hl.1 (Nat.le_of_ble_eq_true rfl) dX2_isCell_52 (fun locs hS => ?_)
          refine lv_if_ne (tgt := 71) X.ex X.by dX2_isCell_55 (by decide) (fun c_55 => ?_) (fun c_55 => ?_)
          · refine lv_iconst (v := 1) X.ex X.by dX2_isCell_71 (by decide) ?_
            refine lv_goto (tgt := 76) X.ex X.by dX2_isCell_72 (by decide) ?_
            refine hr_zret X hr hlk hS (by decide) ⟨_, rfl, ?_, hC⟩ (Nat.le_refl _) (Nat.le_refl _) dX2_isCell_76
            first
              | exact (if_pos (Or.inl (hr_if1 c_8))).symm
              | exact (if_pos (Or.inr (Or.inr (Or.inl (hr_if1 c_19))))).symm
              | exact (if_pos (Or.inr (Or.inl (hr_if1 c_29)))).symm
              | exact (if_pos (Or.inr (Or.inr (Or.inr (Or.inl (hr_if1 c_42)))))).symm
              | exact (if_pos (Or.inr (Or.inr (Or.inr (Or.inr (Or.inl (hr_if1 c_55))))))).symm
              | exact (if_pos (Or.inr (Or.inr (Or.inr (Or.inr (Or.inr (hr_if1 c_68))))))).symm
              | exact (if_neg (fun z => by rcases z with z | z | z | z | z | z; exact hr_if0 c_8 z; exact hr_if0 c_29 z; exact hr_if0 c_19 z; exact hr_if0 c_42 z; exact hr_if0 c_55 z; exact hr_if0 c_68 z)).symm
          · refine lv_iload_n X.ex X.by dX2_isCell_58 rfl (lv_at hl 0 rfl) ?_
            refine lv_sipush (v := 3000) X.ex X.by dX2_isCell_59 (by decide) ?_
            refine lv_sipush (v := 3007) X.ex X.by dX2_isCell_62 (by decide) ?_
            refine c_X2_in X hS ⟨Nat.le_of_ble_eq_true rfl, Nat.le_of_ble_eq_true rfl⟩ ⟨Nat.zero_le _, Nat.zero_le _⟩ hl.1 (Nat.le_of_ble_eq_true rfl) dX2_isCell_65 (fun locs hS => ?_)
            refine lv_if_eq (tgt := 75) X.ex X.by dX2_isCell_68 (by decide) (fun c_68 => ?_) (fun c_68 => ?_)
            · refine lv_iconst (v := 0) X.ex X.by dX2_isCell_75 (by decide) ?_
              refine hr_zret X hr hlk hS (by decide) ⟨_, rfl, ?_, hC⟩ (Nat.le_refl _) (Nat.le_refl _) dX2_isCell_76
              first
                | exact (if_pos (Or.inl (hr_if1 c_8))).symm
                | exact (if_pos (Or.inr (Or.inr (Or.inl (hr_if1 c_19))))).symm
                | exact (if_pos (Or.inr (Or.inl (hr_if1 c_29)))).symm
                | exact (if_pos (Or.inr (Or.inr (Or.inr (Or.inl (hr_if1 c_42)))))).symm
                | exact (if_pos (Or.inr (Or.inr (Or.inr (Or.inr (Or.inl (hr_if1 c_55))))))).symm
                | exact (if_pos (Or.inr (Or.inr (Or.inr (Or.inr (Or.inr (hr_if1 c_68))))))).symm
                | exact (if_neg (fun z => by rcases z with z | z | z | z | z | z; exact hr_if0 c_8 z; exact hr_if0 c_29 z; exact hr_if0 c_19 z; exact hr_if0 c_42 z; exact hr_if0 c_55 z; exact hr_if0 c_68 z)).symm
            · refine lv_iconst (v := 1) X.ex X.by dX2_isCell_71 (by decide) ?_
              refine lv_goto (tgt := 76) X.ex X.by dX2_isCell_72 (by decide) ?_
              refine hr_zret X hr hlk hS (by decide) ⟨_, rfl, ?_, hC⟩ (Nat.le_refl _) (Nat.le_refl _) dX2_isCell_76
              first
                | exact (if_pos (Or.inl (hr_if1 c_8))).symm
                | exact (if_pos (Or.inr (Or.inr (Or.inl (hr_if1 c_19))))).symm
                | exact (if_pos (Or.inr (Or.inl (hr_if1 c_29)))).symm
                | exact (if_pos (Or.inr (Or.inr (Or.inr (Or.inl (hr_if1 c_42)))))).symm
                | exact (if_pos (Or.inr (Or.inr (Or.inr (Or.inr (Or.inl (hr_if1 c_55))))))).symm
                | exact (if_pos (Or.inr (Or.inr (Or.inr (Or.inr (Or.inr (hr_if1 c_68))))))).symm
                | exact (if_neg (fun z => by rcases z with z | z | z | z | z | z; exact hr_if0 c_8 z; exact hr_if0 c_29 z; exact hr_if0 c_19 z; exact hr_if0 c_42 z; exact hr_if0 c_55 z; exact hr_if0 c_68 z)).symm
theorem c_X2_isCell {p : Program} {l : Launch} {e : Env} {R : Room} {s : State} {m : MethodId} {args : Array Value} {below : List Frame} {meth : Method} {c : Code} {H : Heap} {locs : List Loc} {cells slots : Nat} {Q : State → Prop} {cc : ByteArray} {nL : Nat} {s0 : State} {D : va_G} {g : ClassId × ClassId × ClassId} {A : Nat → Prop} {pc : Nat} {ls : Array Slot} {rest : List Value} (X : hr_X p s m args c cc nL RX2 s0 D g A) (hS : va_S A s.heap H locs) {v : Int32} (hR : 2 ≤ R.frames ∧ 80 ≤ R.locals) (hf : cells ≤ R.cells ∧ slots ≤ R.slots) (hsize : ls.size = nL) (hW : (rest.map fun v => v.category).sum ≤ 8) (hdg : decode cc pc = .ok (.invokestatic 40, 3))
    (kk : ∀ locs1 : List Loc, va_S A s.heap H locs1 → W p l e R s m args below meth c H locs1 cells slots Q (F0 m (pc + 3) ls (.int (if hp_ok v then 1 else 0) :: rest))) : W p l e R s m args below meth c H locs cells slots Q (F0 m pc ls (.int v :: rest)) :=
  hr_callSi X (k_X2_isCell l X.2.1 v H) v_X2_isCell (lw_meth q475) hS (fun q h1 h2 => absurd h2 (by omega)) rfl rfl rfl (hr_lR (by decide) hR) hsize rfl hW hf hdg (fun r H1 locs1 hq hS9 _ => by obtain ⟨rfl, rfl⟩ := hq; exact kk locs1 hS9)
set_option maxHeartbeats 4000000 in
theorem k_X2_cell (l : Launch) {s0 : State} {D : va_G} {g : ClassId × ClassId × ClassId} (Z : hr_Z s0 D g) {m : Nat} (h0 : s0.heap.size ≤ m) {K : hp_K} (hV : hp_KV K) (r : Int32) (n : Int32) {sz : Nat} : hr_C l yX2_cell (ws_ yX2_cell cX2_cell 3 (some .int)) (hr_L 2 0 0) s0 m 7 sz [.ref m, .int r, .int n] (fun H => hr_tK D g m K H) (hr_Qi (fun v H => v = (ho_cell K r n).1 ∧ hr_tK D g m (ho_cell K r n).2 H)) 0 0 := by
  refine hr_meth (by decide) (Nat.le_of_ble_eq_true rfl) Z h0 ?_
  intro p e s m0 below meth c ls X hr hlk hnm htab hadm hsz hC hl
  have hl : lv_has ls 3 [(0, _), (1, _), (2, _)] := hl
  have hreg := hr_reg (lo := m) (n := 7) (sz := s.heap.size)
  have hS := hr_S0 (s := s) (lo := m) (n := 7)
  obtain ⟨M, C, h, ta, lo, f, σ⟩ := K
  obtain ⟨hM, hok, hn⟩ := hV
  have hM : ∀ r, r < 8 → M r ≤ 12 := hM
  have hok : ∀ r k, r < 8 → k < M r → hp_ok (C r k) := hok
  have hn : hp_n σ ≤ 2800 := hn
  have hC : hr_tR D g m M C h ta lo f σ [] s.heap := hC
  obtain ⟨rk, at', hk, hC⟩ := hC
  refine lv_iload_n X.ex X.by dX2_cell_0 rfl (lv_at hl 1 rfl) ?_
  refine c_X2_isRack X hS ⟨Nat.le_of_ble_eq_true rfl, Nat.le_of_ble_eq_true rfl⟩ ⟨Nat.zero_le _, Nat.zero_le _⟩ hl.1 (Nat.le_of_ble_eq_true rfl) dX2_cell_1 (fun locs hS => ?_)
  refine lv_if_ne (tgt := 10) X.ex X.by dX2_cell_4 (by decide) (fun c_4 => ?_) (fun c_4 => ?_)
  · obtain ⟨j, ej, hj8, ei⟩ : ∃ j, r.toNatClampNeg = j ∧ j < 8 ∧ r = nI j := ⟨_, rfl, (hp_rk_lt (hr_if1 c_4)).1, (hp_rk_lt (hr_if1 c_4)).2⟩
    refine lv_iload_n X.ex X.by dX2_cell_10 rfl (lv_at hl 2 rfl) ?_
    refine c_X2_isCell X hS ⟨Nat.le_of_ble_eq_true rfl, Nat.le_of_ble_eq_true rfl⟩ ⟨Nat.zero_le _, Nat.zero_le _⟩ hl.1 (Nat.le_of_ble_eq_true rfl) dX2_cell_11 (fun locs hS => ?_)
    refine lv_if_ne (tgt := 20) X.ex X.by dX2_cell_14 (by decide) (fun c_14 => ?_) (fun c_14 => ?_)
    · refine lv_aload_n X.ex X.by dX2_cell_20 rfl (lv_at hl 0 rfl) ?_
      refine hr_tget X hC 0 (by decide) rfl q411 dX2_cell_21 ?_
      refine lv_iload_n X.ex X.by dX2_cell_24 rfl (lv_at hl 1 rfl) ?_
      refine hr_iald X hC.2.1 ei hj8 (by decide) dX2_cell_25 ?_
      refine lv_bipush (v := 12) X.ex X.by dX2_cell_26 (by decide) ?_
      refine lv_icmp_ne (tgt := 34) X.ex X.by dX2_cell_28 (by decide) (fun c_28 => ?_) (fun c_28 => ?_)
      · have c28 : ¬ M j = 12 := fun z => c_28 (by rw [z]; rfl)
        refine lv_aload_n X.ex X.by dX2_cell_34 rfl (lv_at hl 0 rfl) ?_
        refine hr_tget X hC 1 (by decide) rfl q412 dX2_cell_35 ?_
        refine lv_bipush (v := 12) X.ex X.by dX2_cell_38 (by decide) ?_
        refine lv_iload_n X.ex X.by dX2_cell_40 rfl (lv_at hl 1 rfl) ?_
        refine lv_imul X.ex X.by dX2_cell_41 ?_
        refine lv_aload_n X.ex X.by dX2_cell_42 rfl (lv_at hl 0 rfl) ?_
        refine hr_tget X hC 0 (by decide) rfl q411 dX2_cell_43 ?_
        refine lv_iload_n X.ex X.by dX2_cell_46 rfl (lv_at hl 1 rfl) ?_
        refine hr_iald X hC.2.1 ei hj8 (by decide) dX2_cell_47 ?_
        refine lv_iadd X.ex X.by dX2_cell_48 ?_
        refine lv_iload_n X.ex X.by dX2_cell_49 rfl (lv_at hl 2 rfl) ?_
        refine hr_tcst X hC hS hreg (by rw [ei]; show nI 12 * nI j + nI (M j) = _; rw [pk_mul, nI_add]) hj8 (by have := hM j hj8; omega) dX2_cell_50 (fun H locs hC hS _ => ?_)
        refine lv_aload_n X.ex X.by dX2_cell_51 rfl (lv_at hl 0 rfl) ?_
        refine hr_tget X hC 0 (by decide) rfl q411 dX2_cell_52 ?_
        refine lv_iload_n X.ex X.by dX2_cell_55 rfl (lv_at hl 1 rfl) ?_
        refine lv_dup2_11 X.ex X.by dX2_cell_56 rfl rfl ?_
        refine hr_iald X hC.2.1 ei hj8 (by decide) dX2_cell_57 ?_
        refine lv_iconst (v := 1) X.ex X.by dX2_cell_58 (by decide) ?_
        refine lv_iadd X.ex X.by dX2_cell_59 ?_
        refine hr_tmst X hC hS hreg (M j + 1) (nI_1 _) ei hj8 dX2_cell_60 (fun H locs hC hS _ => ?_)
        refine lv_aload_n X.ex X.by dX2_cell_61 rfl (lv_at hl 0 rfl) ?_
        refine hr_tget X hC 0 (by decide) rfl q411 dX2_cell_62 ?_
        refine lv_iload_n X.ex X.by dX2_cell_65 rfl (lv_at hl 1 rfl) ?_
        refine hr_iald X hC.2.1 ei hj8 (by decide) dX2_cell_66 ?_
        refine lv_iconst (v := 1) X.ex X.by dX2_cell_67 (by decide) ?_
        refine lv_isub X.ex X.by dX2_cell_68 ?_
        have eK : ho_cell (M, C, h, ta, lo, f, σ) r n = (nI (M j), va_up M j (M j + 1), va_up C j (upd (C j) (M j) n), h, ta, lo, f, σ) := by unfold ho_cell; dsimp only; rw [if_neg (fun z => z (hr_if1 c_4)), if_neg (fun z => z (hr_if1 c_14)), ej, if_neg c28]
        have e9 : va_up M j (M j + 1) j = M j + 1 := by simp [va_up]
        rw [e9, nI_pred]
        exact hr_iret X hr hlk hS ⟨_, rfl, by rw [eK], by rw [eK]; exact ⟨rk, at', hk, hC⟩⟩ (Nat.le_refl _) (Nat.le_refl _) dX2_cell_69
      · have c28 : M j = 12 := (nI_eq (by have := hM j hj8; omega) (by decide)).mp (show nI (M j) = nI 12 from c_28)
        refine lv_bipush (v := (-103)) X.ex X.by dX2_cell_31 (by decide) ?_
        have eK : ho_cell (M, C, h, ta, lo, f, σ) r n = (-103, (M, C, h, ta, lo, f, σ)) := by unfold ho_cell; dsimp only; rw [if_neg (fun z => z (hr_if1 c_4)), if_neg (fun z => z (hr_if1 c_14)), ej, if_pos c28]
        exact hr_iret X hr hlk hS ⟨_, rfl, by rw [eK], by rw [eK]; exact ⟨rk, at', hk, hC⟩⟩ (Nat.le_refl _) (Nat.le_refl _) dX2_cell_33
    · refine lv_bipush (v := (-102)) X.ex X.by dX2_cell_17 (by decide) ?_
      have eK : ho_cell (M, C, h, ta, lo, f, σ) r n = (-102, (M, C, h, ta, lo, f, σ)) := by unfold ho_cell; rw [if_neg (fun z => z (hr_if1 c_4)), if_pos (hr_if0 c_14)]
      exact hr_iret X hr hlk hS ⟨_, rfl, by rw [eK], by rw [eK]; exact ⟨rk, at', hk, hC⟩⟩ (Nat.le_refl _) (Nat.le_refl _) dX2_cell_19
  · refine lv_bipush (v := (-101)) X.ex X.by dX2_cell_7 (by decide) ?_
    have eK : ho_cell (M, C, h, ta, lo, f, σ) r n = (-101, (M, C, h, ta, lo, f, σ)) := if_pos (hr_if0 c_4)
    exact hr_iret X hr hlk hS ⟨_, rfl, by rw [eK], by rw [eK]; exact ⟨rk, at', hk, hC⟩⟩ (Nat.le_refl _) (Nat.le_refl _) dX2_cell_9
set_option maxHeartbeats 4000000 in
theorem k_X2_clear (l : Launch) {s0 : State} {D : va_G} {g : ClassId × ClassId × ClassId} (Z : hr_Z s0 D g) {m : Nat} (h0 : s0.heap.size ≤ m) {K : hp_K} (hV : hp_KV K) (r : Int32) {sz : Nat} : hr_C l yX2_clear (ws_ yX2_clear cX2_clear 3 (some .int)) (hr_L 2 0 0) s0 m 7 sz [.ref m, .int r] (fun H => hr_tK D g m K H) (hr_Qi (fun v H => v = (ho_clear K r).1 ∧ hr_tK D g m (ho_clear K r).2 H)) 0 0 := by
  refine hr_meth (by decide) (Nat.le_of_ble_eq_true rfl) Z h0 ?_
  intro p e s m0 below meth c ls X hr hlk hnm htab hadm hsz hC hl
  have hl : lv_has ls 3 [(0, _), (1, _)] := hl
  have hreg := hr_reg (lo := m) (n := 7) (sz := s.heap.size)
  have hS := hr_S0 (s := s) (lo := m) (n := 7)
  obtain ⟨M, C, h, ta, lo, f, σ⟩ := K
  obtain ⟨hM, hok, hn⟩ := hV
  have hM : ∀ r, r < 8 → M r ≤ 12 := hM
  have hok : ∀ r k, r < 8 → k < M r → hp_ok (C r k) := hok
  have hn : hp_n σ ≤ 2800 := hn
  have hC : hr_tR D g m M C h ta lo f σ [] s.heap := hC
  obtain ⟨rk, at', hk, hC⟩ := hC
  refine lv_iload_n X.ex X.by dX2_clear_0 rfl (lv_at hl 1 rfl) ?_
  refine c_X2_isRack X hS ⟨Nat.le_of_ble_eq_true rfl, Nat.le_of_ble_eq_true rfl⟩ ⟨Nat.zero_le _, Nat.zero_le _⟩ hl.1 (Nat.le_of_ble_eq_true rfl) dX2_clear_1 (fun locs hS => ?_)
  refine lv_if_ne (tgt := 10) X.ex X.by dX2_clear_4 (by decide) (fun c_4 => ?_) (fun c_4 => ?_)
  · obtain ⟨j, ej, hj8, ei⟩ : ∃ j, r.toNatClampNeg = j ∧ j < 8 ∧ r = nI j := ⟨_, rfl, (hp_rk_lt (hr_if1 c_4)).1, (hp_rk_lt (hr_if1 c_4)).2⟩
    refine lv_aload_n X.ex X.by dX2_clear_10 rfl (lv_at hl 0 rfl) ?_
    refine hr_tget X hC 0 (by decide) rfl q411 dX2_clear_11 ?_
    refine lv_iload_n X.ex X.by dX2_clear_14 rfl (lv_at hl 1 rfl) ?_
    refine hr_iald X hC.2.1 ei hj8 (by decide) dX2_clear_15 ?_
    refine lv_istore_n X.ex X.by dX2_clear_16 rfl hl (by decide) rfl (fun ls hl => ?_)
    have hl : lv_has ls 3 [(2, _), (0, _), (1, _)] := hl
    refine lv_aload_n X.ex X.by dX2_clear_17 rfl (lv_at hl 1 rfl) ?_
    refine hr_tget X hC 0 (by decide) rfl q411 dX2_clear_18 ?_
    refine lv_iload_n X.ex X.by dX2_clear_21 rfl (lv_at hl 2 rfl) ?_
    refine lv_iconst (v := 0) X.ex X.by dX2_clear_22 (by decide) ?_
    refine hr_tmst X hC hS hreg 0 rfl ei hj8 dX2_clear_23 (fun H locs hC hS _ => ?_)
    refine lv_iload_n X.ex X.by dX2_clear_24 rfl (lv_at hl 0 rfl) ?_
    have eK : ho_clear (M, C, h, ta, lo, f, σ) r = (nI (M j), va_up M j 0, C, h, ta, lo, f, σ) := by unfold ho_clear; dsimp only; rw [if_neg (fun z => z (hr_if1 c_4)), ej]
    exact hr_iret X hr hlk hS ⟨_, rfl, by rw [eK], by rw [eK]; exact ⟨rk, at', hk, hC⟩⟩ (Nat.le_refl _) (Nat.le_refl _) dX2_clear_25
  · refine lv_bipush (v := (-101)) X.ex X.by dX2_clear_7 (by decide) ?_
    have eK : ho_clear (M, C, h, ta, lo, f, σ) r = (-101, (M, C, h, ta, lo, f, σ)) := if_pos (hr_if0 c_4)
    exact hr_iret X hr hlk hS ⟨_, rfl, by rw [eK], by rw [eK]; exact ⟨rk, at', hk, hC⟩⟩ (Nat.le_refl _) (Nat.le_refl _) dX2_clear_9
set_option maxHeartbeats 4000000 in
theorem k_X2_tare (l : Launch) {s0 : State} {D : va_G} {g : ClassId × ClassId × ClassId} (Z : hr_Z s0 D g) {m : Nat} (h0 : s0.heap.size ≤ m) {K : hp_K} (hV : hp_KV K) (t : Int32) {sz : Nat} : hr_C l yX2_tare (ws_ yX2_tare cX2_tare 3 (some .int)) (hr_L 1 0 0) s0 m 7 sz [.ref m, .int t] (fun H => hr_tK D g m K H) (hr_Qi (fun v H => v = (ho_tare K t).1 ∧ hr_tK D g m (ho_tare K t).2 H)) 0 0 := by
  refine hr_meth (by decide) (Nat.le_of_ble_eq_true rfl) Z h0 ?_
  intro p e s m0 below meth c ls X hr hlk hnm htab hadm hsz hC hl
  have hl : lv_has ls 3 [(0, _), (1, _)] := hl
  have hreg := hr_reg (lo := m) (n := 7) (sz := s.heap.size)
  have hS := hr_S0 (s := s) (lo := m) (n := 7)
  obtain ⟨M, C, h, ta, lo, f, σ⟩ := K
  obtain ⟨hM, hok, hn⟩ := hV
  have hM : ∀ r, r < 8 → M r ≤ 12 := hM
  have hok : ∀ r k, r < 8 → k < M r → hp_ok (C r k) := hok
  have hn : hp_n σ ≤ 2800 := hn
  have hC : hr_tR D g m M C h ta lo f σ [] s.heap := hC
  obtain ⟨rk, at', hk, hC⟩ := hC
  refine lv_iload_n X.ex X.by dX2_tare_0 rfl (lv_at hl 1 rfl) ?_
  refine lv_iconst (v := 0) X.ex X.by dX2_tare_1 (by decide) ?_
  refine lv_sipush (v := 999) X.ex X.by dX2_tare_2 (by decide) ?_
  refine c_X2_in X hS ⟨Nat.le_of_ble_eq_true rfl, Nat.le_of_ble_eq_true rfl⟩ ⟨Nat.zero_le _, Nat.zero_le _⟩ hl.1 (Nat.le_of_ble_eq_true rfl) dX2_tare_5 (fun locs hS => ?_)
  refine lv_if_ne (tgt := 14) X.ex X.by dX2_tare_8 (by decide) (fun c_8 => ?_) (fun c_8 => ?_)
  · refine lv_aload_n X.ex X.by dX2_tare_14 rfl (lv_at hl 0 rfl) ?_
    refine hr_tget X hC 3 (by decide) rfl q414 dX2_tare_15 ?_
    refine lv_istore_n X.ex X.by dX2_tare_18 rfl hl (by decide) rfl (fun ls hl => ?_)
    have hl : lv_has ls 3 [(2, _), (0, _), (1, _)] := hl
    refine lv_aload_n X.ex X.by dX2_tare_19 rfl (lv_at hl 1 rfl) ?_
    refine lv_iload_n X.ex X.by dX2_tare_20 rfl (lv_at hl 2 rfl) ?_
    refine hr_tput X hC hS hreg 3 (by decide) (Nat.le_of_ble_eq_true rfl) rfl rfl q414 dX2_tare_21 (fun H locs hC hS _ => ?_)
    refine lv_iload_n X.ex X.by dX2_tare_24 rfl (lv_at hl 0 rfl) ?_
    have eK : ho_tare (M, C, h, ta, lo, f, σ) t = (ta, M, C, h, t, lo, f, σ) := by unfold ho_tare; dsimp only; rw [if_neg (fun z => z (hr_if1 c_8))]
    exact hr_iret X hr hlk hS ⟨_, rfl, by rw [eK], by rw [eK]; exact ⟨rk, at', hk, hC⟩⟩ (Nat.le_refl _) (Nat.le_refl _) dX2_tare_25
  · refine lv_bipush (v := (-102)) X.ex X.by dX2_tare_11 (by decide) ?_
    have eK : ho_tare (M, C, h, ta, lo, f, σ) t = (-102, (M, C, h, ta, lo, f, σ)) := if_pos (hr_if0 c_8)
    exact hr_iret X hr hlk hS ⟨_, rfl, by rw [eK], by rw [eK]; exact ⟨rk, at', hk, hC⟩⟩ (Nat.le_refl _) (Nat.le_refl _) dX2_tare_13
set_option maxHeartbeats 4000000 in
theorem k_X2_crew (l : Launch) {s0 : State} {D : va_G} {g : ClassId × ClassId × ClassId} (Z : hr_Z s0 D g) {m : Nat} (h0 : s0.heap.size ≤ m) {K : hp_K} (hV : hp_KV K) (k : Int32) (n : Int32) {sz : Nat} : hr_C l yX2_crew (ws_ yX2_crew cX2_crew 4 (some .int)) (hr_L 1 0 0) s0 m 7 sz [.ref m, .int k, .int n] (fun H => hr_tK D g m K H) (hr_Qi (fun v H => v = (ho_crew K k n).1 ∧ hr_tK D g m (ho_crew K k n).2 H)) 0 0 := by
  refine hr_meth (by decide) (Nat.le_of_ble_eq_true rfl) Z h0 ?_
  intro p e s m0 below meth c ls X hr hlk hnm htab hadm hsz hC hl
  have hl : lv_has ls 4 [(0, _), (1, _), (2, _)] := hl
  have hreg := hr_reg (lo := m) (n := 7) (sz := s.heap.size)
  have hS := hr_S0 (s := s) (lo := m) (n := 7)
  obtain ⟨M, C, h, ta, lo, f, σ⟩ := K
  obtain ⟨hM, hok, hn⟩ := hV
  have hM : ∀ r, r < 8 → M r ≤ 12 := hM
  have hok : ∀ r k, r < 8 → k < M r → hp_ok (C r k) := hok
  have hn : hp_n σ ≤ 2800 := hn
  have hC : hr_tR D g m M C h ta lo f σ [] s.heap := hC
  obtain ⟨rk, at', hk, hC⟩ := hC
  refine lv_iload_n X.ex X.by dX2_crew_0 rfl (lv_at hl 1 rfl) ?_
  refine lv_iconst (v := 0) X.ex X.by dX2_crew_1 (by decide) ?_
  refine lv_iconst (v := 3) X.ex X.by dX2_crew_2 (by decide) ?_
  refine c_X2_in X hS ⟨Nat.le_of_ble_eq_true rfl, Nat.le_of_ble_eq_true rfl⟩ ⟨Nat.zero_le _, Nat.zero_le _⟩ hl.1 (Nat.le_of_ble_eq_true rfl) dX2_crew_3 (fun locs hS => ?_)
  refine lv_if_ne (tgt := 12) X.ex X.by dX2_crew_6 (by decide) (fun c_6 => ?_) (fun c_6 => ?_)
  · obtain ⟨j, ej, hj4, ei⟩ : ∃ j, k.toNatClampNeg = j ∧ j < 4 ∧ k = nI j := ⟨_, rfl, hp_in_lt (n := 3) (by decide) (hr_if1 c_6).1 (hr_if1 c_6).2⟩
    refine lv_iload_n X.ex X.by dX2_crew_12 rfl (lv_at hl 2 rfl) ?_
    refine lv_iconst (v := 0) X.ex X.by dX2_crew_13 (by decide) ?_
    refine lv_bipush (v := 50) X.ex X.by dX2_crew_14 (by decide) ?_
    refine c_X2_in X hS ⟨Nat.le_of_ble_eq_true rfl, Nat.le_of_ble_eq_true rfl⟩ ⟨Nat.zero_le _, Nat.zero_le _⟩ hl.1 (Nat.le_of_ble_eq_true rfl) dX2_crew_16 (fun locs hS => ?_)
    refine lv_if_ne (tgt := 25) X.ex X.by dX2_crew_19 (by decide) (fun c_19 => ?_) (fun c_19 => ?_)
    · refine lv_aload_n X.ex X.by dX2_crew_25 rfl (lv_at hl 0 rfl) ?_
      refine hr_tget X hC 2 (by decide) rfl q413 dX2_crew_26 ?_
      refine lv_iload_n X.ex X.by dX2_crew_29 rfl (lv_at hl 1 rfl) ?_
      refine hr_iald X hC.2.2.2.1 ei hj4 (by decide) dX2_crew_30 ?_
      refine lv_istore_n X.ex X.by dX2_crew_31 rfl hl (by decide) rfl (fun ls hl => ?_)
      have hl : lv_has ls 4 [(3, _), (0, _), (1, _), (2, _)] := hl
      refine lv_aload_n X.ex X.by dX2_crew_32 rfl (lv_at hl 1 rfl) ?_
      refine hr_tget X hC 2 (by decide) rfl q413 dX2_crew_33 ?_
      refine lv_iload_n X.ex X.by dX2_crew_36 rfl (lv_at hl 2 rfl) ?_
      refine lv_iload_n X.ex X.by dX2_crew_37 rfl (lv_at hl 3 rfl) ?_
      refine hr_thst X hC hS hreg ei hj4 dX2_crew_38 (fun H locs hC hS _ => ?_)
      refine lv_iload_n X.ex X.by dX2_crew_39 rfl (lv_at hl 0 rfl) ?_
      have eK : ho_crew (M, C, h, ta, lo, f, σ) k n = (h j, M, C, upd h j n, ta, lo, f, σ) := by unfold ho_crew; dsimp only; rw [if_neg (fun z => z (hr_if1 c_6)), if_neg (fun z => z (hr_if1 c_19)), ej]
      exact hr_iret X hr hlk hS ⟨_, rfl, by rw [eK], by rw [eK]; exact ⟨rk, at', hk, hC⟩⟩ (Nat.le_refl _) (Nat.le_refl _) dX2_crew_40
    · refine lv_bipush (v := (-102)) X.ex X.by dX2_crew_22 (by decide) ?_
      have eK : ho_crew (M, C, h, ta, lo, f, σ) k n = (-102, (M, C, h, ta, lo, f, σ)) := by unfold ho_crew; dsimp only; rw [if_neg (fun z => z (hr_if1 c_6)), if_pos (hr_if0 c_19)]
      exact hr_iret X hr hlk hS ⟨_, rfl, by rw [eK], by rw [eK]; exact ⟨rk, at', hk, hC⟩⟩ (Nat.le_refl _) (Nat.le_refl _) dX2_crew_24
  · refine lv_bipush (v := (-101)) X.ex X.by dX2_crew_9 (by decide) ?_
    have eK : ho_crew (M, C, h, ta, lo, f, σ) k n = (-101, (M, C, h, ta, lo, f, σ)) := if_pos (hr_if0 c_6)
    exact hr_iret X hr hlk hS ⟨_, rfl, by rw [eK], by rw [eK]; exact ⟨rk, at', hk, hC⟩⟩ (Nat.le_refl _) (Nat.le_refl _) dX2_crew_11
set_option maxHeartbeats 4000000 in
theorem k_X2_told (l : Launch) {s0 : State} {D : va_G} {g : ClassId × ClassId × ClassId} (Z : hr_Z s0 D g) {m : Nat} (h0 : s0.heap.size ≤ m) {K : hp_K} (hV : hp_KV K) (w : Int32) {sz : Nat} : hr_C l yX2_told (ws_ yX2_told cX2_told 2 (some .int)) (hr_L 0 0 0) s0 m 7 sz [.ref m, .int w] (fun H => hr_tK D g m K H) (hr_Qi (fun v H => v = ho_told K w ∧ hr_tK D g m K H)) 0 0 := by
  refine hr_meth (by decide) (Nat.le_of_ble_eq_true rfl) Z h0 ?_
  intro p e s m0 below meth c ls X hr hlk hnm htab hadm hsz hC hl
  have hl : lv_has ls 2 [(0, _), (1, _)] := hl
  have hreg := hr_reg (lo := m) (n := 7) (sz := s.heap.size)
  have hS := hr_S0 (s := s) (lo := m) (n := 7)
  obtain ⟨M, C, h, ta, lo, f, σ⟩ := K
  obtain ⟨hM, hok, hn⟩ := hV
  have hM : ∀ r, r < 8 → M r ≤ 12 := hM
  have hok : ∀ r k, r < 8 → k < M r → hp_ok (C r k) := hok
  have hn : hp_n σ ≤ 2800 := hn
  have hC : hr_tR D g m M C h ta lo f σ [] s.heap := hC
  obtain ⟨rk, at', hk, hC⟩ := hC
  refine lv_iload_n X.ex X.by dX2_told_0 rfl (lv_at hl 1 rfl) ?_
  by_cases w0 : w = 0
  · subst w0
    refine lv_tableIn (off := 47) (tgt := 48) X.ex X.by dX2_told_1 (by decide) (by decide) (by decide) (by decide) ?_
    refine lv_aload_n X.ex X.by dX2_told_48 rfl (lv_at hl 0 rfl) ?_
    refine hr_tget X hC 5 (by decide) rfl q416 dX2_told_49 ?_
    exact hr_iret X hr hlk hS ⟨_, rfl, by unfold ho_told; rfl, ⟨rk, at', hk, hC⟩⟩ (Nat.le_refl _) (Nat.le_refl _) dX2_told_52
  by_cases w1 : w = 1
  · subst w1
    refine lv_tableIn (off := 52) (tgt := 53) X.ex X.by dX2_told_1 (by decide) (by decide) (by decide) (by decide) ?_
    refine lv_aload_n X.ex X.by dX2_told_53 rfl (lv_at hl 0 rfl) ?_
    refine hr_tget X hC 6 (by decide) rfl q417 dX2_told_54 ?_
    exact hr_iret X hr hlk hS ⟨_, rfl, by unfold ho_told; rfl, ⟨rk, at', hk, hC⟩⟩ (Nat.le_refl _) (Nat.le_refl _) dX2_told_57
  by_cases w2 : w = 2
  · subst w2
    refine lv_tableIn (off := 57) (tgt := 58) X.ex X.by dX2_told_1 (by decide) (by decide) (by decide) (by decide) ?_
    refine lv_aload_n X.ex X.by dX2_told_58 rfl (lv_at hl 0 rfl) ?_
    refine hr_tget X hC 7 (by decide) rfl q418 dX2_told_59 ?_
    exact hr_iret X hr hlk hS ⟨_, rfl, by unfold ho_told; rfl, ⟨rk, at', hk, hC⟩⟩ (Nat.le_refl _) (Nat.le_refl _) dX2_told_62
  by_cases w3 : w = 3
  · subst w3
    refine lv_tableIn (off := 62) (tgt := 63) X.ex X.by dX2_told_1 (by decide) (by decide) (by decide) (by decide) ?_
    refine lv_aload_n X.ex X.by dX2_told_63 rfl (lv_at hl 0 rfl) ?_
    refine hr_tget X hC 8 (by decide) rfl q419 dX2_told_64 ?_
    exact hr_iret X hr hlk hS ⟨_, rfl, by unfold ho_told; rfl, ⟨rk, at', hk, hC⟩⟩ (Nat.le_refl _) (Nat.le_refl _) dX2_told_67
  by_cases w4 : w = 4
  · subst w4
    refine lv_tableIn (off := 67) (tgt := 68) X.ex X.by dX2_told_1 (by decide) (by decide) (by decide) (by decide) ?_
    refine lv_aload_n X.ex X.by dX2_told_68 rfl (lv_at hl 0 rfl) ?_
    refine hr_tget X hC 9 (by decide) rfl q420 dX2_told_69 ?_
    exact hr_iret X hr hlk hS ⟨_, rfl, by unfold ho_told; rfl, ⟨rk, at', hk, hC⟩⟩ (Nat.le_refl _) (Nat.le_refl _) dX2_told_72
  by_cases w5 : w = 5
  · subst w5
    refine lv_tableIn (off := 72) (tgt := 73) X.ex X.by dX2_told_1 (by decide) (by decide) (by decide) (by decide) ?_
    refine lv_aload_n X.ex X.by dX2_told_73 rfl (lv_at hl 0 rfl) ?_
    refine hr_tget X hC 10 (by decide) rfl q421 dX2_told_74 ?_
    exact hr_iret X hr hlk hS ⟨_, rfl, by unfold ho_told; rfl, ⟨rk, at', hk, hC⟩⟩ (Nat.le_refl _) (Nat.le_refl _) dX2_told_77
  by_cases w6 : w = 6
  · subst w6
    refine lv_tableIn (off := 77) (tgt := 78) X.ex X.by dX2_told_1 (by decide) (by decide) (by decide) (by decide) ?_
    refine lv_aload_n X.ex X.by dX2_told_78 rfl (lv_at hl 0 rfl) ?_
    refine hr_tget X hC 11 (by decide) rfl q422 dX2_told_79 ?_
    exact hr_iret X hr hlk hS ⟨_, rfl, by unfold ho_told; rfl, ⟨rk, at', hk, hC⟩⟩ (Nat.le_refl _) (Nat.le_refl _) dX2_told_82
  by_cases w7 : w = 7
  · subst w7
    refine lv_tableIn (off := 82) (tgt := 83) X.ex X.by dX2_told_1 (by decide) (by decide) (by decide) (by decide) ?_
    refine lv_aload_n X.ex X.by dX2_told_83 rfl (lv_at hl 0 rfl) ?_
    refine hr_tget X hC 12 (by decide) rfl q423 dX2_told_84 ?_
    exact hr_iret X hr hlk hS ⟨_, rfl, by unfold ho_told; rfl, ⟨rk, at', hk, hC⟩⟩ (Nat.le_refl _) (Nat.le_refl _) dX2_told_87
  refine lv_tableOut (tgt := 88) X.ex X.by dX2_told_1 (hp_tab8 w0 w1 w2 w3 w4 w5 w6 w7) (by decide) ?_
  refine lv_bipush (v := (-101)) X.ex X.by dX2_told_88 (by decide) ?_
  exact hr_iret X hr hlk hS ⟨_, rfl, by unfold ho_told; rw [if_neg w0, if_neg w1, if_neg w2, if_neg w3, if_neg w4, if_neg w5, if_neg w6, if_neg w7], ⟨rk, at', hk, hC⟩⟩ (Nat.le_refl _) (Nat.le_refl _) dX2_told_90
set_option maxHeartbeats 4000000 in
theorem k_X2_note (l : Launch) {s0 : State} {D : va_G} {g : ClassId × ClassId × ClassId} (Z : hr_Z s0 D g) {m : Nat} (h0 : s0.heap.size ≤ m) {K : hp_K} (hV : hp_KV K) (i : Int32) {sz : Nat} : hr_C l yX2_note (ws_ yX2_note cX2_note 2 (some .int)) (hr_L 1 0 0) s0 m 7 sz [.ref m, .int i] (fun H => hr_tK D g m K H) (hr_Qi (fun v H => v = ho_note K i ∧ hr_tK D g m K H)) 0 0 := by
  refine hr_meth (by decide) (Nat.le_of_ble_eq_true rfl) Z h0 ?_
  intro p e s m0 below meth c ls X hr hlk hnm htab hadm hsz hC hl
  have hl : lv_has ls 2 [(0, _), (1, _)] := hl
  have hreg := hr_reg (lo := m) (n := 7) (sz := s.heap.size)
  have hS := hr_S0 (s := s) (lo := m) (n := 7)
  obtain ⟨M, C, h, ta, lo, f, σ⟩ := K
  obtain ⟨hM, hok, hn⟩ := hV
  have hM : ∀ r, r < 8 → M r ≤ 12 := hM
  have hok : ∀ r k, r < 8 → k < M r → hp_ok (C r k) := hok
  have hn : hp_n σ ≤ 2800 := hn
  have hC : hr_tR D g m M C h ta lo f σ [] s.heap := hC
  obtain ⟨rk, at', hk, hC⟩ := hC
  refine lv_iload_n X.ex X.by dX2_note_0 rfl (lv_at hl 1 rfl) ?_
  refine lv_iconst (v := 0) X.ex X.by dX2_note_1 (by decide) ?_
  refine lv_aload_n X.ex X.by dX2_note_2 rfl (lv_at hl 0 rfl) ?_
  refine hr_tget X hC 12 (by decide) rfl q423 dX2_note_3 ?_
  refine lv_iconst (v := 1) X.ex X.by dX2_note_6 (by decide) ?_
  refine lv_isub X.ex X.by dX2_note_7 ?_
  refine c_X2_in X hS ⟨Nat.le_of_ble_eq_true rfl, Nat.le_of_ble_eq_true rfl⟩ ⟨Nat.zero_le _, Nat.zero_le _⟩ hl.1 (Nat.le_of_ble_eq_true rfl) dX2_note_8 (fun locs hS => ?_)
  refine lv_if_eq (tgt := 23) X.ex X.by dX2_note_11 (by decide) (fun c_11 => ?_) (fun c_11 => ?_)
  · refine lv_bipush (v := (-101)) X.ex X.by dX2_note_23 (by decide) ?_
    first
      | exact hr_iret X hr hlk hS ⟨_, rfl, (if_pos (hr_if1 c_11)).symm, ⟨rk, at', hk, hC⟩⟩ (Nat.le_refl _) (Nat.le_refl _) dX2_note_25
      | exact hr_iret X hr hlk hS ⟨_, rfl, (if_neg (hr_if0 c_11)).symm, ⟨rk, at', hk, hC⟩⟩ (Nat.le_refl _) (Nat.le_refl _) dX2_note_25
  · have hj := hp_note_lt (n := σ.2.2.2.2.length) (Nat.lt_of_le_of_lt hn (by decide)) (hr_if1 c_11)
    refine lv_aload_n X.ex X.by dX2_note_14 rfl (lv_at hl 0 rfl) ?_
    refine hr_tget X hC 13 (by decide) rfl q424 dX2_note_15 ?_
    refine lv_iload_n X.ex X.by dX2_note_18 rfl (lv_at hl 1 rfl) ?_
    refine hr_tjld X hC hj.2 hj.1 (by show hp_n σ ≤ 6000; omega) dX2_note_19 ?_
    refine lv_goto (tgt := 25) X.ex X.by dX2_note_20 (by decide) ?_
    first
      | exact hr_iret X hr hlk hS ⟨_, rfl, (if_pos (hr_if1 c_11)).symm, ⟨rk, at', hk, hC⟩⟩ (Nat.le_refl _) (Nat.le_refl _) dX2_note_25
      | exact hr_iret X hr hlk hS ⟨_, rfl, (if_neg (hr_if0 c_11)).symm, ⟨rk, at', hk, hC⟩⟩ (Nat.le_refl _) (Nat.le_refl _) dX2_note_25
set_option maxHeartbeats 4000000 in
theorem k_X2_held (l : Launch) {s0 : State} {D : va_G} {g : ClassId × ClassId × ClassId} (Z : hr_Z s0 D g) {m : Nat} (h0 : s0.heap.size ≤ m) {K : hp_K} (hV : hp_KV K) (w : Int32) {sz : Nat} : hr_C l yX2_held (ws_ yX2_held cX2_held 2 (some .int)) (hr_L 1 0 0) s0 m 7 sz [.ref m, .int w] (fun H => hr_tK D g m K H) (hr_Qi (fun v H => v = ho_held w ∧ hr_tK D g m K H)) 0 0 := by
  refine hr_meth (by decide) (Nat.le_of_ble_eq_true rfl) Z h0 ?_
  intro p e s m0 below meth c ls X hr hlk hnm htab hadm hsz hC hl
  have hl : lv_has ls 2 [(0, _), (1, _)] := hl
  have hreg := hr_reg (lo := m) (n := 7) (sz := s.heap.size)
  have hS := hr_S0 (s := s) (lo := m) (n := 7)
  obtain ⟨M, C, h, ta, lo, f, σ⟩ := K
  obtain ⟨hM, hok, hn⟩ := hV
  have hM : ∀ r, r < 8 → M r ≤ 12 := hM
  have hok : ∀ r k, r < 8 → k < M r → hp_ok (C r k) := hok
  have hn : hp_n σ ≤ 2800 := hn
  have hC : hr_tR D g m M C h ta lo f σ [] s.heap := hC
  obtain ⟨rk, at', hk, hC⟩ := hC
  refine lv_iload_n X.ex X.by dX2_held_0 rfl (lv_at hl 1 rfl) ?_
  refine lv_iconst (v := 0) X.ex X.by dX2_held_1 (by decide) ?_
  refine lv_iconst (v := 2) X.ex X.by dX2_held_2 (by decide) ?_
  refine c_X2_in X hS ⟨Nat.le_of_ble_eq_true rfl, Nat.le_of_ble_eq_true rfl⟩ ⟨Nat.zero_le _, Nat.zero_le _⟩ hl.1 (Nat.le_of_ble_eq_true rfl) dX2_held_3 (fun locs hS => ?_)
  refine lv_if_eq (tgt := 13) X.ex X.by dX2_held_6 (by decide) (fun c_6 => ?_) (fun c_6 => ?_)
  · refine lv_bipush (v := (-101)) X.ex X.by dX2_held_13 (by decide) ?_
    first
      | exact hr_iret X hr hlk hS ⟨_, rfl, (if_pos (hr_if1 c_6)).symm, ⟨rk, at', hk, hC⟩⟩ (Nat.le_refl _) (Nat.le_refl _) dX2_held_15
      | exact hr_iret X hr hlk hS ⟨_, rfl, (if_neg (hr_if0 c_6)).symm, ⟨rk, at', hk, hC⟩⟩ (Nat.le_refl _) (Nat.le_refl _) dX2_held_15
  · refine lv_iconst (v := 0) X.ex X.by dX2_held_9 (by decide) ?_
    refine lv_goto (tgt := 15) X.ex X.by dX2_held_10 (by decide) ?_
    first
      | exact hr_iret X hr hlk hS ⟨_, rfl, (if_pos (hr_if1 c_6)).symm, ⟨rk, at', hk, hC⟩⟩ (Nat.le_refl _) (Nat.le_refl _) dX2_held_15
      | exact hr_iret X hr hlk hS ⟨_, rfl, (if_neg (hr_if0 c_6)).symm, ⟨rk, at', hk, hC⟩⟩ (Nat.le_refl _) (Nat.le_refl _) dX2_held_15
set_option maxHeartbeats 4000000 in
theorem k_X2_cells (l : Launch) {s0 : State} {D : va_G} {g : ClassId × ClassId × ClassId} (Z : hr_Z s0 D g) {m : Nat} (h0 : s0.heap.size ≤ m) {K : hp_K} (hV : hp_KV K) (r : Int32) {sz : Nat} : hr_C l yX2_cells (ws_ yX2_cells cX2_cells 2 (some .int)) (hr_L 2 0 0) s0 m 7 sz [.ref m, .int r] (fun H => hr_tK D g m K H) (hr_Qi (fun v H => v = ho_cells K r ∧ hr_tK D g m K H)) 0 0 := by
  refine hr_meth (by decide) (Nat.le_of_ble_eq_true rfl) Z h0 ?_
  intro p e s m0 below meth c ls X hr hlk hnm htab hadm hsz hC hl
  have hl : lv_has ls 2 [(0, _), (1, _)] := hl
  have hreg := hr_reg (lo := m) (n := 7) (sz := s.heap.size)
  have hS := hr_S0 (s := s) (lo := m) (n := 7)
  obtain ⟨M, C, h, ta, lo, f, σ⟩ := K
  obtain ⟨hM, hok, hn⟩ := hV
  have hM : ∀ r, r < 8 → M r ≤ 12 := hM
  have hok : ∀ r k, r < 8 → k < M r → hp_ok (C r k) := hok
  have hn : hp_n σ ≤ 2800 := hn
  have hC : hr_tR D g m M C h ta lo f σ [] s.heap := hC
  obtain ⟨rk, at', hk, hC⟩ := hC
  refine lv_iload_n X.ex X.by dX2_cells_0 rfl (lv_at hl 1 rfl) ?_
  refine c_X2_isRack X hS ⟨Nat.le_of_ble_eq_true rfl, Nat.le_of_ble_eq_true rfl⟩ ⟨Nat.zero_le _, Nat.zero_le _⟩ hl.1 (Nat.le_of_ble_eq_true rfl) dX2_cells_1 (fun locs hS => ?_)
  refine lv_if_eq (tgt := 16) X.ex X.by dX2_cells_4 (by decide) (fun c_4 => ?_) (fun c_4 => ?_)
  · refine lv_bipush (v := (-101)) X.ex X.by dX2_cells_16 (by decide) ?_
    first
      | exact hr_iret X hr hlk hS ⟨_, rfl, by show _ = ho_cells (M, C, h, ta, lo, f, σ) r; unfold ho_cells; rw [if_pos (hr_if1 c_4), ej], ⟨rk, at', hk, hC⟩⟩ (Nat.le_refl _) (Nat.le_refl _) dX2_cells_18
      | exact hr_iret X hr hlk hS ⟨_, rfl, (if_neg (hr_if0 c_4)).symm, ⟨rk, at', hk, hC⟩⟩ (Nat.le_refl _) (Nat.le_refl _) dX2_cells_18
  · obtain ⟨j, ej, hj8, ei⟩ : ∃ j, r.toNatClampNeg = j ∧ j < 8 ∧ r = nI j := ⟨_, rfl, (hp_rk_lt (hr_if1 c_4)).1, (hp_rk_lt (hr_if1 c_4)).2⟩
    refine lv_aload_n X.ex X.by dX2_cells_7 rfl (lv_at hl 0 rfl) ?_
    refine hr_tget X hC 0 (by decide) rfl q411 dX2_cells_8 ?_
    refine lv_iload_n X.ex X.by dX2_cells_11 rfl (lv_at hl 1 rfl) ?_
    refine hr_iald X hC.2.1 ei hj8 (by decide) dX2_cells_12 ?_
    refine lv_goto (tgt := 18) X.ex X.by dX2_cells_13 (by decide) ?_
    first
      | exact hr_iret X hr hlk hS ⟨_, rfl, by show _ = ho_cells (M, C, h, ta, lo, f, σ) r; unfold ho_cells; rw [if_pos (hr_if1 c_4), ej], ⟨rk, at', hk, hC⟩⟩ (Nat.le_refl _) (Nat.le_refl _) dX2_cells_18
      | exact hr_iret X hr hlk hS ⟨_, rfl, (if_neg (hr_if0 c_4)).symm, ⟨rk, at', hk, hC⟩⟩ (Nat.le_refl _) (Nat.le_refl _) dX2_cells_18
set_option maxHeartbeats 4000000 in
theorem run_loop {p : Program} {l : Launch} {e : Env} {s : State} {m0 : MethodId} {args : Array Value} {below : List Frame} {meth : Method} {c : Code} {s0 : State} {D : va_G} {g : ClassId × ClassId × ClassId} {m : Nat} (X : hr_X p s m0 args c cX2_run 3 RX2 s0 D g (hr_A m 7 s.heap.size)) (hr : meth.sig.returnType = some .int) (hlk : meth.locks = false) {M : Nat → Nat} {C : Nat → Nat → Int32} {h : Nat → Int32} {ta lo : Int32} (hM : ∀ r, r < 8 → M r ≤ 12) (hok : ∀ r k, r < 8 → k < M r → hp_ok (C r k)) {σF : hp_S} {oF : Option hp_X} (hT6 : hp_n σF ≤ 6000) {v1 v2 : Value} :
    ∀ (n : Nat) (σ : hp_S) (stk : List (Nat × Nat)) (o : Option hp_X) (H : Heap) (locs : List Loc) (ls : Array Slot), hp_it M C h ta lo n (σ, stk, o) = (σF, [], oF) → hp_tv M (σ, stk, o) → hp_mb σ → hr_tR D g m M C h ta lo (hp_fo o) σ stk H → va_S (hr_A m 7 s.heap.size) s.heap H locs → lv_has ls 3 [(0, .ref m), (1, v1), (2, v2)] → W p l e (hr_L 7 0 0) s m0 args below meth c H locs 0 0 (hr_Q below (hr_Qc m 7 (hr_Qi (fun v H => v = (if oF = none then 1 else 0) ∧ hr_tR D g m M C h ta lo (hp_fo oF) σF [] H))) args s 0 0 (hr_A m 7 s.heap.size)) (F0 m0 50 ls []) := by
  have hreg := hr_reg (lo := m) (n := 7) (sz := s.heap.size)
  intro n
  induction n with
  | zero =>
    intro σ stk o H locs ls hit htv hmb hC hS hl
    obtain ⟨rfl, rfl, rfl⟩ : σF = σ ∧ stk = [] ∧ oF = o := by
      have e1 := congrArg (fun t : hp_T => t.1) hit
      have e2 := congrArg (fun t : hp_T => t.2.1) hit
      have e3 := congrArg (fun t : hp_T => t.2.2) hit
      exact ⟨e1.symm, e2, e3.symm⟩
    obtain ⟨rk, at', hk, hC⟩ := hC
    refine lv_aload_n X.ex X.by dX2_run_50 rfl (lv_at hl 0 rfl) ?_
    refine hr_tget X hC 14 (by decide) rfl q425 dX2_run_51 ?_
    refine lv_if_le (tgt := 101) X.ex X.by dX2_run_54 (by decide) (fun c_54 => ?_) (fun c_54 => absurd (show nI 0 ≤ 0 by decide) c_54)
    refine lv_aload_n X.ex X.by dX2_run_101 rfl (lv_at hl 0 rfl) ?_
    refine hr_tget X hC 6 (by decide) rfl q417 dX2_run_102 ?_
    refine lv_if_ne (tgt := 112) X.ex X.by dX2_run_105 (by decide) (fun c_105 => ?_) (fun c_105 => ?_)
    · have eo : ¬ oF = none := fun z => c_105 (by rw [z]; rfl)
      refine lv_iconst (v := 0) X.ex X.by dX2_run_112 (by decide) ?_
      first
        | exact hr_iret X hr hlk hS ⟨_, rfl, (if_pos eo).symm, ⟨rk, at', hk, hC⟩⟩ (Nat.le_refl _) (Nat.le_refl _) dX2_run_113
        | exact hr_iret X hr hlk hS ⟨_, rfl, (if_neg eo).symm, ⟨rk, at', hk, hC⟩⟩ (Nat.le_refl _) (Nat.le_refl _) dX2_run_113
    · have eo : oF = none := by
        cases oF with
        | none => rfl
        | some x =>
          have hx := hp_code_le (htv x rfl)
          exact absurd ((nI_eq (b := 0) (by omega) (by decide)).mp c_105) (by omega)
      refine lv_iconst (v := 1) X.ex X.by dX2_run_108 (by decide) ?_
      refine lv_goto (tgt := 113) X.ex X.by dX2_run_109 (by decide) ?_
      first
        | exact hr_iret X hr hlk hS ⟨_, rfl, (if_pos eo).symm, ⟨rk, at', hk, hC⟩⟩ (Nat.le_refl _) (Nat.le_refl _) dX2_run_113
        | exact hr_iret X hr hlk hS ⟨_, rfl, (if_neg eo).symm, ⟨rk, at', hk, hC⟩⟩ (Nat.le_refl _) (Nat.le_refl _) dX2_run_113
  | succ n ih =>
    intro σ stk o H locs ls hit htv hmb hC hS hl
    cases stk with
    | nil =>
      have hit := (hp_it_nil (n + 1) σ o).symm.trans hit
      obtain ⟨rfl, rfl⟩ : σF = σ ∧ oF = o := ⟨(congrArg (fun t : hp_T => t.1) hit).symm, (congrArg (fun t : hp_T => t.2.2) hit).symm⟩
      obtain ⟨rk, at', hk, hC⟩ := hC
      refine lv_aload_n X.ex X.by dX2_run_50 rfl (lv_at hl 0 rfl) ?_
      refine hr_tget X hC 14 (by decide) rfl q425 dX2_run_51 ?_
      refine lv_if_le (tgt := 101) X.ex X.by dX2_run_54 (by decide) (fun c_54 => ?_) (fun c_54 => absurd (show nI 0 ≤ 0 by decide) c_54)
      refine lv_aload_n X.ex X.by dX2_run_101 rfl (lv_at hl 0 rfl) ?_
      refine hr_tget X hC 6 (by decide) rfl q417 dX2_run_102 ?_
      refine lv_if_ne (tgt := 112) X.ex X.by dX2_run_105 (by decide) (fun c_105 => ?_) (fun c_105 => ?_)
      · have eo : ¬ oF = none := fun z => c_105 (by rw [z]; rfl)
        refine lv_iconst (v := 0) X.ex X.by dX2_run_112 (by decide) ?_
        first
          | exact hr_iret X hr hlk hS ⟨_, rfl, (if_pos eo).symm, ⟨rk, at', hk, hC⟩⟩ (Nat.le_refl _) (Nat.le_refl _) dX2_run_113
          | exact hr_iret X hr hlk hS ⟨_, rfl, (if_neg eo).symm, ⟨rk, at', hk, hC⟩⟩ (Nat.le_refl _) (Nat.le_refl _) dX2_run_113
      · have eo : oF = none := by
          cases oF with
          | none => rfl
          | some x =>
            have hx := hp_code_le (htv x rfl)
            exact absurd ((nI_eq (b := 0) (by omega) (by decide)).mp c_105) (by omega)
        refine lv_iconst (v := 1) X.ex X.by dX2_run_108 (by decide) ?_
        refine lv_goto (tgt := 113) X.ex X.by dX2_run_109 (by decide) ?_
        first
          | exact hr_iret X hr hlk hS ⟨_, rfl, (if_pos eo).symm, ⟨rk, at', hk, hC⟩⟩ (Nat.le_refl _) (Nat.le_refl _) dX2_run_113
          | exact hr_iret X hr hlk hS ⟨_, rfl, (if_neg eo).symm, ⟨rk, at', hk, hC⟩⟩ (Nat.le_refl _) (Nat.le_refl _) dX2_run_113
    | cons q stk =>
      obtain ⟨r, k⟩ := q
      have htv9 := hp_step_tv (h := h) (ta := ta) (lo := lo) hM hok htv
      have hmb9 := hp_step_mb (M := M) (C := C) (h := h) (ta := ta) (lo := lo) (σ, (r, k) :: stk, o) hmb
      have hge9 := hp_it_ge (M := M) (C := C) (h := h) (ta := ta) (lo := lo) n (hp_step M C h ta lo (σ, (r, k) :: stk, o))
      have hit : hp_it M C h ta lo n (hp_step M C h ta lo (σ, (r, k) :: stk, o)) = (σF, [], oF) := hit
      rw [hit] at hge9
      have hge9 : hp_n (hp_step M C h ta lo (σ, (r, k) :: stk, o)).1 ≤ 6000 := Nat.le_trans hge9 hT6
      obtain ⟨hr8, hkM, hd, hlv, ho⟩ := htv
      have ho : o = none := ho
      subst ho
      have h12 := hM r hr8
      obtain ⟨rk, at', hk, hC⟩ := hC
      refine lv_aload_n X.ex X.by dX2_run_50 rfl (lv_at hl 0 rfl) ?_
      refine hr_tget X hC 14 (by decide) rfl q425 dX2_run_51 ?_
      refine lv_if_le (tgt := 101) X.ex X.by dX2_run_54 (by decide) (fun c_54 => absurd c_54 (nI_nle (n := stk.length + 1) (Nat.succ_pos stk.length) (by omega))) (fun c_54 => ?_)
      refine lv_aload_n X.ex X.by dX2_run_57 rfl (lv_at hl 0 rfl) ?_
      refine hr_tget X hC 16 (by decide) rfl q427 dX2_run_58 ?_
      refine lv_aload_n X.ex X.by dX2_run_61 rfl (lv_at hl 0 rfl) ?_
      refine hr_tget X hC 14 (by decide) rfl q425 dX2_run_62 ?_
      refine lv_iconst (v := 1) X.ex X.by dX2_run_65 (by decide) ?_
      refine lv_isub X.ex X.by dX2_run_66 ?_
      refine hr_iald X hC.2.2.2.2.2.2 (by show nI (stk.length + 1) - 1 = nI stk.length; exact nI_pred _) hd (by decide) dX2_run_67 ?_
      refine lv_aload_n X.ex X.by dX2_run_68 rfl (lv_at hl 0 rfl) ?_
      refine hr_tget X hC 0 (by decide) rfl q411 dX2_run_69 ?_
      refine lv_aload_n X.ex X.by dX2_run_72 rfl (lv_at hl 0 rfl) ?_
      refine hr_tget X hC 15 (by decide) rfl q426 dX2_run_73 ?_
      refine lv_aload_n X.ex X.by dX2_run_76 rfl (lv_at hl 0 rfl) ?_
      refine hr_tget X hC 14 (by decide) rfl q425 dX2_run_77 ?_
      refine lv_iconst (v := 1) X.ex X.by dX2_run_80 (by decide) ?_
      refine lv_isub X.ex X.by dX2_run_81 ?_
      refine hr_iald X hC.2.2.2.2.2.1 (by show nI (stk.length + 1) - 1 = nI stk.length; exact nI_pred _) hd (by decide) dX2_run_82 ?_
      refine hr_iald X hC.2.1 hk.1 hr8 (by decide) dX2_run_83 ?_
      refine lv_icmp_ne (tgt := 94) X.ex X.by dX2_run_84 (by decide) (fun c_84 => ?_) (fun c_84 => ?_)
      · have ck : ¬ k = M r := fun z => c_84 (by rw [hk.2.1, z])
        have eS : hp_step M C h ta lo (σ, (r, k) :: stk, none) = hp_doc C h ta lo r k stk σ := by unfold hp_step; dsimp only; rw [if_neg ck]
        rw [eS] at hit htv9 hmb9 hge9
        have hlv2 : hp_lv M ((r, k) :: stk) := by
          intro q hq
          rcases List.mem_cons.mp hq with e | e
          · rw [e]; exact ⟨hr8, by show k < M r; omega⟩
          · exact hlv q e
        refine lv_aload_n X.ex X.by dX2_run_94 rfl (lv_at hl 0 rfl) ?_
        have hC : hr_tR D g m M C h ta lo (hp_fo none) σ ((r, k) :: stk) H := ⟨rk, at', hk, hC⟩
        refine c_X2_doCell X hC hM hr8 (by omega) (hok r k hr8 (by omega)) hlv hlv2 hd hmb hge9 hS hreg ⟨Nat.le_of_ble_eq_true rfl, Nat.le_of_ble_eq_true rfl⟩ ⟨Nat.zero_le _, Nat.zero_le _⟩ hl.1 (Nat.le_of_ble_eq_true rfl) dX2_run_95 (fun H locs hC hS => ?_)
        refine lv_goto (tgt := 50) X.ex X.by dX2_run_98 (by decide) ?_
        exact ih _ _ _ H locs ls hit htv9 hmb9 hC hS hl
      · have ck : k = M r := by
          rw [hk.2.1] at c_84
          exact (nI_eq (by omega) (by omega)).mp c_84
        have eS : hp_step M C h ta lo (σ, (r, k) :: stk, none) = hp_ret stk (hp_wr (-1) (hp_add 1 (hp_wr 4 σ))) := by unfold hp_step; dsimp only; rw [if_pos ck]
        rw [eS] at hit htv9 hmb9 hge9
        refine lv_aload_n X.ex X.by dX2_run_87 rfl (lv_at hl 0 rfl) ?_
        have hC : hr_tR D g m M C h ta lo (hp_fo none) σ ((r, k) :: stk) H := ⟨rk, at', hk, hC⟩
        refine c_X2_finishes X hC hd hge9 hS hreg ⟨Nat.le_of_ble_eq_true rfl, Nat.le_of_ble_eq_true rfl⟩ ⟨Nat.zero_le _, Nat.zero_le _⟩ hl.1 (Nat.le_of_ble_eq_true rfl) dX2_run_88 (fun H locs hC hS => ?_)
        have hC : hr_tR D g m M C h ta lo (hp_fo (hp_ret stk (hp_wr (-1) (hp_add 1 (hp_wr 4 σ)))).2.2) (hp_ret stk (hp_wr (-1) (hp_add 1 (hp_wr 4 σ)))).1 (hp_ret stk (hp_wr (-1) (hp_add 1 (hp_wr 4 σ)))).2.1 H := by rw [hp_ret_none]; exact hC
        refine lv_goto (tgt := 50) X.ex X.by dX2_run_91 (by decide) ?_
        exact ih _ _ _ H locs ls hit htv9 hmb9 hC hS hl
set_option maxHeartbeats 4000000 in
theorem k_X2_run (l : Launch) {s0 : State} {D : va_G} {g : ClassId × ClassId × ClassId} (Z : hr_Z s0 D g) {m : Nat} (h0 : s0.heap.size ≤ m) {K : hp_K} (hV : hp_KV K) (r : Int32) (w : Int32) {sz : Nat} : hr_C l yX2_run (ws_ yX2_run cX2_run 3 (some .int)) (hr_L 7 0 0) s0 m 7 sz [.ref m, .int r, .int w] (fun H => hr_tK D g m K H) (hr_Qi (fun v H => v = (ho_run K r w).1 ∧ hr_tK D g m (ho_run K r w).2 H)) 0 0 := by
  refine hr_meth (by decide) (Nat.le_of_ble_eq_true rfl) Z h0 ?_
  intro p e s m0 below meth c ls X hr hlk hnm htab hadm hsz hC hl
  have hl : lv_has ls 3 [(0, _), (1, _), (2, _)] := hl
  have hreg := hr_reg (lo := m) (n := 7) (sz := s.heap.size)
  have hS := hr_S0 (s := s) (lo := m) (n := 7)
  obtain ⟨M, C, h, ta, lo, f, σ⟩ := K
  obtain ⟨hM, hok, hn⟩ := hV
  have hM : ∀ r, r < 8 → M r ≤ 12 := hM
  have hok : ∀ r k, r < 8 → k < M r → hp_ok (C r k) := hok
  have hn : hp_n σ ≤ 2800 := hn
  have hC : hr_tR D g m M C h ta lo f σ [] s.heap := hC
  obtain ⟨rk, at', hk, hC⟩ := hC
  refine lv_iload_n X.ex X.by dX2_run_0 rfl (lv_at hl 1 rfl) ?_
  refine c_X2_isRack X hS ⟨Nat.le_of_ble_eq_true rfl, Nat.le_of_ble_eq_true rfl⟩ ⟨Nat.zero_le _, Nat.zero_le _⟩ hl.1 (Nat.le_of_ble_eq_true rfl) dX2_run_1 (fun locs hS => ?_)
  refine lv_if_ne (tgt := 10) X.ex X.by dX2_run_4 (by decide) (fun c_4 => ?_) (fun c_4 => ?_)
  · obtain ⟨j, ej, hj8, ei⟩ : ∃ j, r.toNatClampNeg = j ∧ j < 8 ∧ r = nI j := ⟨_, rfl, (hp_rk_lt (hr_if1 c_4)).1, (hp_rk_lt (hr_if1 c_4)).2⟩
    refine lv_aload_n X.ex X.by dX2_run_10 rfl (lv_at hl 0 rfl) ?_
    refine lv_iload_n X.ex X.by dX2_run_11 rfl (lv_at hl 2 rfl) ?_
    refine hr_tput X hC hS hreg 4 (by decide) (Nat.le_of_ble_eq_true rfl) rfl rfl q415 dX2_run_12 (fun H locs hC hS _ => ?_)
    refine lv_aload_n X.ex X.by dX2_run_15 rfl (lv_at hl 0 rfl) ?_
    refine lv_iconst (v := 0) X.ex X.by dX2_run_16 (by decide) ?_
    refine hr_tput X hC hS hreg 5 (by decide) (Nat.le_of_ble_eq_true rfl) rfl rfl q416 dX2_run_17 (fun H locs hC hS _ => ?_)
    refine lv_aload_n X.ex X.by dX2_run_20 rfl (lv_at hl 0 rfl) ?_
    refine lv_iconst (v := 0) X.ex X.by dX2_run_21 (by decide) ?_
    have hC : hr_tR D g m M C h ta w f (0, σ.2) [] H := ⟨rk, at', hk, hC⟩
    refine c_X2_fails X hC  hS hreg ⟨Nat.le_of_ble_eq_true rfl, Nat.le_of_ble_eq_true rfl⟩ ⟨Nat.zero_le _, Nat.zero_le _⟩ hl.1 (Nat.le_of_ble_eq_true rfl) dX2_run_22 (fun H locs hC hS => ?_)
    obtain ⟨rk, at', hk, hC⟩ := hC
    refine lv_aload_n X.ex X.by dX2_run_25 rfl (lv_at hl 0 rfl) ?_
    refine lv_iconst (v := 0) X.ex X.by dX2_run_26 (by decide) ?_
    refine hr_tput X hC hS hreg 10 (by decide) (Nat.le_of_ble_eq_true rfl) rfl rfl q421 dX2_run_27 (fun H locs hC hS _ => ?_)
    refine lv_aload_n X.ex X.by dX2_run_30 rfl (lv_at hl 0 rfl) ?_
    refine lv_iconst (v := 0) X.ex X.by dX2_run_31 (by decide) ?_
    refine hr_tput X hC hS hreg 11 (by decide) (Nat.le_of_ble_eq_true rfl) rfl rfl q422 dX2_run_32 (fun H locs hC hS _ => ?_)
    refine lv_aload_n X.ex X.by dX2_run_35 rfl (lv_at hl 0 rfl) ?_
    refine lv_iconst (v := 0) X.ex X.by dX2_run_36 (by decide) ?_
    refine hr_tput X hC hS hreg 12 (by decide) (Nat.le_of_ble_eq_true rfl) rfl rfl q423 dX2_run_37 (fun H locs hC hS _ => ?_)
    refine lv_aload_n X.ex X.by dX2_run_40 rfl (lv_at hl 0 rfl) ?_
    refine lv_iconst (v := 0) X.ex X.by dX2_run_41 (by decide) ?_
    refine hr_tput X hC hS hreg 14 (by decide) (Nat.le_of_ble_eq_true rfl) rfl rfl q425 dX2_run_42 (fun H locs hC hS _ => ?_)
    refine lv_aload_n X.ex X.by dX2_run_45 rfl (lv_at hl 0 rfl) ?_
    refine lv_iload_n X.ex X.by dX2_run_46 rfl (lv_at hl 1 rfl) ?_
    have hC : hr_tR D g m M C h ta w (hp_fo none) (0, 0, 0, 0, []) [] H := ⟨rk, at', hk, hC.clr⟩
    subst ei
    refine c_X2_begins X hC (by decide : ([] : List (Nat × Nat)).length < 6) (by decide : (0 : Nat) ≤ 6) (by decide : (0 : Nat) < 6000) hS hreg ⟨Nat.le_of_ble_eq_true rfl, Nat.le_of_ble_eq_true rfl⟩ ⟨Nat.zero_le _, Nat.zero_le _⟩ hl.1 (Nat.le_of_ble_eq_true rfl) dX2_run_47 (fun H locs hC hS => ?_)
    obtain ⟨n9, hn9⟩ := hp_sim (M := M) (C := C) (h := h) (ta := ta) (lo := w) hok 5 [] j (0, 0, 0, 0, []) hj8 rfl
    have hle := (hp_run_le (M, C, h, ta, lo, f, σ) j w).1
    have eT : hp_cont C [] (hp_lift M C h ta w (5 + 1) j (0, 0, 0, 0, [])) = ((hp_run (M, C, h, ta, lo, f, σ) j w).2, [], (hp_run (M, C, h, ta, lo, f, σ) j w).1) := by
      show hp_cont C [] (hp_run (M, C, h, ta, lo, f, σ) j w) = _
      cases hp_run (M, C, h, ta, lo, f, σ) j w with
      | mk o τ =>
        cases o with
        | none => rfl
        | some x => rfl
    rw [eT] at hn9
    have eK : ho_run (M, C, h, ta, lo, f, σ) (nI j) w = ((if (hp_run (M, C, h, ta, lo, f, σ) j w).1 = none then 1 else 0), M, C, h, ta, w, hp_fo (hp_run (M, C, h, ta, lo, f, σ) j w).1, (hp_run (M, C, h, ta, lo, f, σ) j w).2) := by unfold ho_run; dsimp only; rw [if_neg (fun z => z (hr_if1 c_4)), ej]
    rw [eK]
    exact run_loop X hr hlk hM hok (show hp_n (hp_run (M, C, h, ta, lo, f, σ) j w).2 ≤ 6000 by omega) n9 _ [(j, 0)] none H locs ls hn9 ⟨hj8, Nat.zero_le _, (by decide : ([] : List (Nat × Nat)).length < 6), (fun q hq => absurd hq List.not_mem_nil), rfl⟩ ⟨(by decide : (1 : Nat) ≤ 6), (by decide : (0 : Nat) ≤ 300)⟩ hC hS hl
  · refine lv_bipush (v := (-101)) X.ex X.by dX2_run_7 (by decide) ?_
    have eK : ho_run (M, C, h, ta, lo, f, σ) r w = (-101, (M, C, h, ta, lo, f, σ)) := if_pos (hr_if0 c_4)
    exact hr_iret X hr hlk hS ⟨_, rfl, by rw [eK], by rw [eK]; exact ⟨rk, at', hk, hC⟩⟩ (Nat.le_refl _) (Nat.le_refl _) dX2_run_9
end HRX
end
section
/-! CONSTRUCTORS -/
section HRN
variable {p : Program} {l : Launch} {e : Env} {R : Room} {s : State} {m : MethodId} {args : Array Value} {below : List Frame} {meth : Method} {c : Code} {H : Heap} {locs : List Loc} {cells slots : Nat} {Q : State → Prop}
variable {cc : ByteArray} {nL : Nat} {own : String} {s0 : State} {D : va_G} {g : ClassId × ClassId × ClassId} {A : Nat → Prop} {pc : Nat} {ls : Array Slot} {rest : List Value} {a : Nat}
theorem hr_Sg {H1 : Heap} (hS : va_S A s.heap H locs) (z : H1.size = H.size + 1) (o : ∀ q : Nat, q < H.size → H1[q]? = H[q]?) : va_S A s.heap H1 locs :=
  ⟨by have := hS.1; omega, fun q h1 h2 => by rw [o q (Nat.lt_of_lt_of_le h1 hS.1)]; exact hS.2.1 q h1 h2, hS.2.2⟩
theorem hr_newaA (X : hr_X p s m args c cc nL own s0 D g A) (hS : va_S A s.heap H locs) (hz : H.size = a) {n : Int32} {N' : Nat} (hn : ¬ n < 0) (hN : n.toNatClampNeg = N') (hb : N' * 4 ≤ 536870912) (hcells : cells + 1 ≤ R.cells) (hslots : slots + N' ≤ R.slots) (hdg : decode cc pc = .ok (.newarray .int, 2))
    (kk : ∀ H1 : Heap, H1[a]? = some (arrV g.1 N' (fun _ => .int 0)) → H1.size = a + 1 → (∀ q : Nat, q < a → H1[q]? = H[q]?) → va_S A s.heap H1 locs →
      W p l e R s m args below meth c H1 locs (cells + 1) (slots + N') Q (F0 m (pc + 2) ls (.ref a :: rest))) : W p l e R s m args below meth c H locs cells slots Q (F0 m pc ls (.int n :: rest)) := by
  subst hz
  exact hr_newa X hn hN hb hcells hslots hdg (fun H1 h1 h2 h3 => kk H1 h1 h2 h3 (hr_Sg hS h2 h3))
theorem hr_anewA (X : hr_X p s m args c cc nL own s0 D g A) (hS : va_S A s.heap H locs) (hz : H.size = a) {E : String} {t0 index : Nat} {cA : ClassId} (ht : (hr_ty g)[t0]? = some (cA, .object E)) (hcl : Cond.classLink own index E ∈ lw_all) (hao : Cond.arrayOver (.object E) ∈ lw_tbl) {n : Int32} {N' : Nat} (hn : ¬ n < 0) (hN : n.toNatClampNeg = N') (hb : N' * 4 ≤ 536870912) (hcells : cells + 1 ≤ R.cells) (hslots : slots + N' ≤ R.slots) (hdg : decode cc pc = .ok (.anewarray index, 3))
    (kk : ∀ H1 : Heap, H1[a]? = some (arrV cA N' (fun _ => .null)) → H1.size = a + 1 → (∀ q : Nat, q < a → H1[q]? = H[q]?) → va_S A s.heap H1 locs →
      W p l e R s m args below meth c H1 locs (cells + 1) (slots + N') Q (F0 m (pc + 3) ls (.ref a :: rest))) : W p l e R s m args below meth c H locs cells slots Q (F0 m pc ls (.int n :: rest)) := by
  subst hz
  exact hr_anew X ht hcl hao hn hN hb hcells hslots hdg (fun H1 h1 h2 h3 => kk H1 h1 h2 h3 (hr_Sg hS h2 h3))
theorem hr_newA {ci N : Nat} {C : String} {T : u_T} {ty : Nat → FieldType} (X : hr_X p s m args c cc nL own s0 D g A) (I : hr_In ci C T N ty) (hS : va_S A s.heap H locs) (hz : H.size = a) {index : Nat} (hcl : Cond.classLink own index C ∈ lw_all) (hinst : Cond.instantiable C N ∈ lw_all) (hini : Cond.initialized C ∈ lw_all) {fs : List Value} (hfs : ∀ j, j < N → defaultValue (ty j) = vp_V fs j) (hcells : cells + 1 ≤ R.cells) (hslots : slots + N ≤ R.slots) (hdg : decode cc pc = .ok (.new index, 3))
    (kk : ∀ H1 : Heap, t_OB a (D.1 ci) N (D.2 ci) H1 (vp_V fs) → H1.size = a + 1 → (∀ q : Nat, q < a → H1[q]? = H[q]?) → va_S A s.heap H1 locs →
      W p l e R s m args below meth c H1 locs (cells + 1) (slots + N) Q (F0 m (pc + 3) ls (.ref a :: rest))) : W p l e R s m args below meth c H locs cells slots Q (F0 m pc ls rest) := by
  subst hz
  exact hr_new X I hcl hinst hini hfs hcells hslots hdg (fun H1 h1 _ h2 h3 => kk H1 h1 h2 h3 (hr_Sg hS h2 h3))
theorem hr_putFA {ci N : Nat} {C : String} {T : u_T} {ty : Nat → FieldType} (X : hr_X p s m args c cc nL own s0 D g A) (I : hr_In ci C T N ty) {fs : List Value} (hO : t_OB a (D.1 ci) N (D.2 ci) H (vp_V fs)) (hS : va_S A s.heap H locs) (haA : A a) (k : Nat) (hk : k < N) (hkl : k < fs.length) (hfin : (T k).2.2.2 = true) (hin2 : meth.name = "<init>") (hdecl : (T k).1 = own) {v : Value} (hn : narrow (ty k) v = v) (hfit : fits (ty k) v = true) {index : Nat} (hl : Cond.fieldLink own index (T k).1 (T k).2.1 (T k).2.2.1 ∈ lw_all) (hdg : decode cc pc = .ok (.putfield index, 3))
    (kk : ∀ (H1 : Heap) (locs1 : List Loc), t_OB a (D.1 ci) N (D.2 ci) H1 (vp_V (fs.set k v)) → H1.size = H.size → (∀ q : Nat, q ≠ a → H1[q]? = H[q]?) → va_S A s.heap H1 locs1 → W p l e R s m args below meth c H1 locs1 cells slots Q (F0 m (pc + 3) ls rest)) : W p l e R s m args below meth c H locs cells slots Q (F0 m pc ls (v :: .ref a :: rest)) :=
  hr_putF X I hO k hk hkl hfin hin2 hdecl hn hfit hl hdg (fun H1 h1 h2 h3 => kk H1 _ h1 h2 h3 (hS.put h2 h3 haA))
theorem hr_putA {ci N : Nat} {C : String} {T : u_T} {ty : Nat → FieldType} (X : hr_X p s m args c cc nL own s0 D g A) (I : hr_In ci C T N ty) {fs : List Value} (hO : t_OB a (D.1 ci) N (D.2 ci) H (vp_V fs)) (hS : va_S A s.heap H locs) (haA : A a) (k : Nat) (hk : k < N) (hkl : k < fs.length) (hfin : (T k).2.2.2 = false) {v : Value} (hn : narrow (ty k) v = v) (hfit : fits (ty k) v = true) {index : Nat} (hl : Cond.fieldLink own index (T k).1 (T k).2.1 (T k).2.2.1 ∈ lw_all) (hdg : decode cc pc = .ok (.putfield index, 3))
    (kk : ∀ (H1 : Heap) (locs1 : List Loc), t_OB a (D.1 ci) N (D.2 ci) H1 (vp_V (fs.set k v)) → H1.size = H.size → (∀ q : Nat, q ≠ a → H1[q]? = H[q]?) → va_S A s.heap H1 locs1 → W p l e R s m args below meth c H1 locs1 cells slots Q (F0 m (pc + 3) ls rest)) : W p l e R s m args below meth c H locs cells slots Q (F0 m pc ls (v :: .ref a :: rest)) :=
  hr_put X I hO k hk hkl hfin hn hfit hl hdg (fun H1 h1 h2 h3 => kk H1 _ h1 h2 h3 (hS.put h2 h3 haA))
/-- Object's constructor -/
theorem hr_obj (X : hr_X p s m args c cc nL own s0 D g A) {idx : Nat} (hl : Cond.methodLink own idx Lib.objectInit ∈ lw_all) (hsize : ls.size = nL) (hR : 1 ≤ R.frames ∧ 40 ≤ R.locals) (hW : (rest.map fun v => v.category).sum ≤ 8) (hdg : decode cc pc = .ok (.invokespecial idx, 3))
    (kk : W p l e R s m args below meth c H locs cells slots Q (F0 m (pc + 3) ls rest)) : W p l e R s m args below meth c H locs cells slots Q (F0 m pc ls (.ref a :: rest)) := by
  refine W.objInit (rest := rest) X.ex X.by X.ow (X.ts _ hl) (X.ts _ q47) (X.ts _ q48) rfl (by rw [X.ml]; exact hsize) rfl hdg hR.1 ?_ ?_
  · have h9 : 2 * (F0 m pc ls (.ref a :: rest)).monitorRoom + (rest.map fun v => v.category).sum ≤ 8 := lv_room hW
    have := hR.2
    omega
  · exact kk
/-- what an invokespecial of a nest mate's private constructor asks of the tables -/
def hr_IN (own : String) (index : Nat) (y : MethodName) (host : String) (maxL n : Nat) : Prop :=
  Cond.methodLinkNest own index y host ∈ lw_tbl ∧ Cond.instanceMethod y ∈ lw_all ∧ Cond.initialized y.cls ∈ lw_all ∧ (∃ bytes, Cond.code y bytes maxL none ∈ lw_all) ∧ y.name = "<init>" ∧
    y.cls ≠ "java/lang/invoke/MethodHandle" ∧ y.cls ≠ "java/lang/invoke/VarHandle" ∧ (parseMethodDescriptor y.desc).map (fun d => d.parameters.length) = some n
theorem hr_runIN {y : MethodName} {cc : ByteArray} {maxL nL mc ms n index : Nat} {host : String} {ws : List Cond} {rm : Room} {Pc : Array Value → State → Prop} {Qc : Array Value → State → Outcome → State → Prop} {free : Addr → Prop} {own : String} {b : Addr} {As rest : List Value} {g : JFrame}
    (S : CallFix p m c cc nL s args lw_all own) (hN : va_Nw (.methodLinkNest own index y host) s) (hM : hr_M l y ws rm Pc Qc mc ms free) (V : hr_IN own index y host maxL n) (hG : GoodIn lw_all ws) (hrc : rm.cells = mc) (hrs : rm.slots = ms) (hR : rm.frames + 1 ≤ R.frames ∧ 8 + (maxL + 11) + rm.locals ≤ R.locals) (hp : PreS s H Pc (.ref b :: As))
    (hg : g.method = m) (hn : As.length = n) (hsize : g.locals.size = nL) (hstack : g.stack = As.reverse ++ .ref b :: rest) (hW : 2 * g.monitorRoom + (rest.map fun v => v.category).sum ≤ 8) (hdg : decode cc g.pc = .ok (.invokespecial index, 3)) (hf : cells + mc ≤ R.cells ∧ slots + ms ≤ R.slots) :
    hr_Run p l e R s m args below meth c H locs cells slots mc ms g rest (Qc (Value.ref b :: As).toArray) free := by
  obtain ⟨hx, hb, hml, hown, hts⟩ := S
  obtain ⟨-, v2, v4, ⟨bytes, v5⟩, v9, v6, v7, v8⟩ := V
  obtain ⟨hbl, hPc⟩ := hp
  subst hb
  subst hg
  intro T hT X
  have hpl : e.platform.magicAccessors = ({} : Platform).magicAccessors := by rw [X.admits.platform]
  have hlen : ∀ sig, parseMethodDescriptor y.desc = some sig → As.length = sig.parameters.length := by
    intro sig h
    rw [h] at v8
    exact hn.trans (Option.some.inj v8).symm
  obtain ⟨mk, methM, cM, kP, vm₁, hnamed, hmethM, hcM, -, hlM, -, hkP, -, hW₁, hstep₁⟩ := Steps.initColdArgsNest (e := e) X.here hx X.warmed hpl hown v9 ⟨v6, v7⟩ (va_Nw.use rfl hN) (hts _ v2) (hts _ v5) (f := g) rfl hlen hstack hdg
  have X₁ := X.noted hW₁
  obtain ⟨kY, hkY, -⟩ := className_of_methodNamed (X₁.named hnamed)
  have hinitY : kY.init = .initialized := Cond.initialized_spec (findClass_of_methodNamed (X₁.named hnamed)) hkY (word_at (a' := args) X₁.warmed (Or.inl (by first | rfl | simp [Cond.onTables, Cond.keeps, Cond.steady])) (hts _ v4))
  obtain ⟨o, t, T', L, X', hL, e1, e2, hq, r1, r2⟩ := hr_back hM hbl hrc hrs hR.1 hR.2 X₁ (g := { g with stack := rest }) rfl (hsize.trans hml.symm) hdg hW (X₁.named hnamed) (methY := methM) (cY := cM) (by rw [X₁.warmed.alike.method?]; exact hmethM) hcM hlM hkY hinitY (pay_in hts hG) hf
    (hPc (T.setVm vm₁) hT X₁.warmed)
  refine ⟨o, _, t, T', L, ?_, X', hL, e1, e2, hq, fun v hv target h => ?_, fun x hx2 target h => ?_⟩
  · exact hT
  · exact hstep₁ _ fun acts => by rw [doInvoke_state]; exact (r1 v hv).trans h
  · exact hstep₁ _ fun acts => by rw [doInvoke_state]; exact (r2 x hx2).trans h
theorem hr_callINv {lo n mc ms maxL ar index b : Nat} {y : MethodName} {host : String} {ws : List Cond} {rm : Room} {B : Heap → Prop} {As : List Value} {P : Heap → Prop} (X : hr_X p s m args c cc nL own s0 D g A) (hC : hr_C l y ws rm s0 lo n H.size (.ref b :: As) B (hr_Qv P) mc ms) (V : hr_IN own index y host maxL ar) (hG : GoodIn lw_all ws) (hS : va_S A s.heap H locs) (hr : ∀ q : Nat, lo ≤ q → q < lo + n → A q)
    (hB : B H) (hrc : rm.cells = mc) (hrs : rm.slots = ms) (hR : rm.frames + 1 ≤ R.frames ∧ 8 + (maxL + 11) + rm.locals ≤ R.locals) (hsize : ls.size = nL) (hn : As.length = ar) (hW : (rest.map fun v => v.category).sum ≤ 8)
    (hf : cells + mc ≤ R.cells ∧ slots + ms ≤ R.slots) (hdg : decode cc pc = .ok (.invokespecial index, 3))
    (kk : ∀ (H1 : Heap) (locs1 : List Loc), P H1 → va_S A s.heap H1 locs1 → hr_kp lo n H H1 → W p l e R s m args below meth c H1 locs1 (cells + mc) (slots + ms) Q (F0 m (pc + 3) ls rest)) :
    W p l e R s m args below meth c H locs cells slots Q (F0 m pc ls (As.reverse ++ .ref b :: rest)) := by
  refine hr_go (hr_runIN (g := F0 m pc ls (As.reverse ++ .ref b :: rest)) X.1 (X.nm V.1) hC V hG hrc hrs hR ⟨hr_blind, fun U hU hW => ⟨rfl, by rw [hU], ⟨State.WarmedH.trans (t := s) X.2.2.1.1 hW, by rw [hU]; exact X.B hS⟩, by rw [hU]; exact hB⟩⟩ rfl hn hsize rfl (lv_room hW) hdg hf) ?_
  intro o st₀ t H1 L h0 ht hvm hq hL
  subst ht
  rw [h0] at hq
  obtain ⟨⟨rfl, hq1⟩, hq2⟩ := hq
  exact kk t.heap (locs ++ L) hq1 (hr_Sv hS X.2.2.2.2 hr hq2 hL) hq2
end HRN
section HRO
theorem v_X1_init : hr_IN "HoistRacks" 29 yX1_init "HoistRacks" 1 0 := ⟨q54, q55, q27, ⟨_, q56⟩, rfl, by decide +kernel, by decide +kernel, by decide +kernel⟩
set_option maxHeartbeats 4000000 in
theorem k_X3_init (l : Launch) {s0 : State} {D : va_G} {g : ClassId × ClassId × ClassId} (Z : hr_Z s0 D g) {a : Nat} (h0 : s0.heap.size ≤ a) (x : Int32) {sz : Nat} : hr_C l yX3_init (ws_ yX3_init cX3_init 2 none) (hr_L 1 0 0) s0 a 1 sz [.ref a, .int x] (fun H => t_OB a (D.1 2) 1 (D.2 2) H (vp_V [.int 0])) (hr_Qv (fun H => t_OB a (D.1 2) 1 (D.2 2) H (vp_V [.int x]))) 0 0 := by
  refine hr_meth (by decide) (Nat.le_of_ble_eq_true rfl) Z h0 ?_
  intro p e s m0 below meth c ls X hr hlk hnm htab hadm hsz hO hl
  have hl : lv_has ls 2 [(0, _), (1, _)] := hl
  have hS := hr_S0 (s := s) (lo := a) (n := 1)
  have haA : hr_A a 1 s.heap.size a := Or.inl ⟨Nat.le_refl a, Nat.lt_succ_self a⟩
  refine lv_aload_n X.ex X.by dX3_init_0 rfl (lv_at hl 0 rfl) ?_
  refine hr_obj X q145 hl.1 ⟨Nat.le_of_ble_eq_true rfl, Nat.le_of_ble_eq_true rfl⟩ (Nat.le_of_ble_eq_true rfl) dX3_init_1 ?_
  refine lv_aload_n X.ex X.by dX3_init_4 rfl (lv_at hl 0 rfl) ?_
  refine lv_iload_n X.ex X.by dX3_init_5 rfl (lv_at hl 1 rfl) ?_
  refine hr_putFA X hr_i2 hO hS haA 0 (by decide) (Nat.le_of_ble_eq_true rfl) rfl hnm rfl rfl rfl q146 dX3_init_6 (fun H locs hO zz oq hS => ?_)
  exact hr_vret X hr hlk hS ⟨rfl, hO⟩ (Nat.le_refl _) (Nat.le_refl _) dX3_init_9
set_option maxHeartbeats 4000000 in
theorem k_X1_init (l : Launch) {s0 : State} {D : va_G} {g : ClassId × ClassId × ClassId} (Z : hr_Z s0 D g) {a sz : Nat} (h0 : s0.heap.size ≤ a) (hs1 : sz = a + 1) : hr_C l yX1_init (ws_ yX1_init cX1_init 1 none) (hr_L 1 1 12) s0 a 1 sz [.ref a] (fun H => t_OB a (D.1 1) 2 (D.2 1) H (vp_V [.null, .int 0])) (hr_Qv (fun H => t_OB a (D.1 1) 2 (D.2 1) H (vp_V [.ref (a + 1), .int 0]) ∧ H[a + 1]? = some (arrV g.1 12 (fun _ => .int 0)) ∧ H.size = a + 2)) 1 12 := by
  refine hr_meth (by decide) (Nat.le_of_ble_eq_true rfl) Z h0 ?_
  intro p e s m0 below meth c ls X hr hlk hnm htab hadm hsz hO hl
  have hl : lv_has ls 1 [(0, _)] := hl
  have hS := hr_S0 (s := s) (lo := a) (n := 1)
  have haA : hr_A a 1 s.heap.size a := Or.inl ⟨Nat.le_refl a, Nat.lt_succ_self a⟩
  refine lv_aload_n X.ex X.by dX1_init_0 rfl (lv_at hl 0 rfl) ?_
  refine hr_obj X q57 hl.1 ⟨Nat.le_of_ble_eq_true rfl, Nat.le_of_ble_eq_true rfl⟩ (Nat.le_of_ble_eq_true rfl) dX1_init_1 ?_
  refine lv_aload_n X.ex X.by dX1_init_4 rfl (lv_at hl 0 rfl) ?_
  refine lv_bipush (v := 12) X.ex X.by dX1_init_5 (by decide) ?_
  refine hr_newaA X hS (hsz.symm.trans hs1) (by decide) (N' := 12) (by decide) (by decide) (Nat.le_of_ble_eq_true rfl) (Nat.le_of_ble_eq_true rfl) dX1_init_7 (fun H hN zN oN hS => ?_)
  have hO := hO.kept (oN a (Nat.lt_succ_self a))
  refine hr_putFA X hr_i1 hO hS haA 0 (by decide) (Nat.le_of_ble_eq_true rfl) rfl hnm rfl rfl rfl q58 dX1_init_9 (fun H locs hO zz oq hS => ?_)
  exact hr_vret X hr hlk hS ⟨rfl, hO, (oq (a + 1) (by omega)).trans hN, by omega⟩ (Nat.le_of_ble_eq_true rfl) (Nat.le_of_ble_eq_true rfl) dX1_init_12
set_option maxHeartbeats 4000000 in
theorem k_X2_init (l : Launch) {s0 : State} {D : va_G} {g : ClassId × ClassId × ClassId} (Z : hr_Z s0 D g) {m sz : Nat} (h0 : s0.heap.size ≤ m) (hs1 : sz = m + 1) : hr_C l yX2_init (ws_ yX2_init cX2_init 1 none) (hr_L 1 6 6120) s0 m 1 sz [.ref m] (fun H => t_OB m (D.1 3) 17 (D.2 3) H (vp_V [.null, .null, .null, .int 0, .int 0, .int 0, .int 0, .int 0, .int 0, .int 0, .int 0, .int 0, .int 0, .null, .int 0, .null, .null])) (hr_Qv (fun H => hr_tK D g m hp_K0 H ∧ H.size = m + 7)) 6 6120 := by
  refine hr_meth (by decide) (Nat.le_of_ble_eq_true rfl) Z h0 ?_
  intro p e s m0 below meth c ls X hr hlk hnm htab hadm hsz hO hl
  have hl : lv_has ls 1 [(0, _)] := hl
  have hS := hr_S0 (s := s) (lo := m) (n := 1)
  have haA : hr_A m 1 s.heap.size m := Or.inl ⟨Nat.le_refl m, Nat.lt_succ_self m⟩
  have hz : s.heap.size = m + 1 := hsz.symm.trans hs1
  refine lv_aload_n X.ex X.by dX2_init_0 rfl (lv_at hl 0 rfl) ?_
  refine hr_obj X q410 hl.1 ⟨Nat.le_of_ble_eq_true rfl, Nat.le_of_ble_eq_true rfl⟩ (Nat.le_of_ble_eq_true rfl) dX2_init_1 ?_
  refine lv_aload_n X.ex X.by dX2_init_4 rfl (lv_at hl 0 rfl) ?_
  refine lv_bipush (v := 8) X.ex X.by dX2_init_5 (by decide) ?_
  refine hr_newaA X hS hz (by decide) (N' := 8) (by decide) (by decide) (Nat.le_of_ble_eq_true rfl) (Nat.le_of_ble_eq_true rfl) dX2_init_7 (fun H hA1 zN oN hS => ?_)
  have hO := hO.kept (oN m (by omega))
  have hz : H.size = m + 2 := zN
  refine hr_putFA X hr_i3 hO hS haA 0 (by decide) (Nat.le_of_ble_eq_true rfl) rfl hnm rfl rfl rfl q411 dX2_init_9 (fun H locs hO zz oq hS => ?_)
  have hA1 := (oq (m + 1) (by omega)).trans hA1
  have hz := zz.trans hz
  refine lv_aload_n X.ex X.by dX2_init_12 rfl (lv_at hl 0 rfl) ?_
  refine lv_bipush (v := 96) X.ex X.by dX2_init_13 (by decide) ?_
  refine hr_newaA X hS hz (by decide) (N' := 96) (by decide) (by decide) (Nat.le_of_ble_eq_true rfl) (Nat.le_of_ble_eq_true rfl) dX2_init_15 (fun H hA2 zN oN hS => ?_)
  have hO := hO.kept (oN m (by omega))
  have hA1 := (oN (m + 1) (by omega)).trans hA1
  have hz : H.size = m + 3 := zN
  refine hr_putFA X hr_i3 hO hS haA 1 (by decide) (Nat.le_of_ble_eq_true rfl) rfl hnm rfl rfl rfl q412 dX2_init_17 (fun H locs hO zz oq hS => ?_)
  have hA1 := (oq (m + 1) (by omega)).trans hA1
  have hA2 := (oq (m + 2) (by omega)).trans hA2
  have hz := zz.trans hz
  refine lv_aload_n X.ex X.by dX2_init_20 rfl (lv_at hl 0 rfl) ?_
  refine lv_iconst (v := 4) X.ex X.by dX2_init_21 (by decide) ?_
  refine hr_newaA X hS hz (by decide) (N' := 4) (by decide) (by decide) (Nat.le_of_ble_eq_true rfl) (Nat.le_of_ble_eq_true rfl) dX2_init_22 (fun H hA3 zN oN hS => ?_)
  have hO := hO.kept (oN m (by omega))
  have hA1 := (oN (m + 1) (by omega)).trans hA1
  have hA2 := (oN (m + 2) (by omega)).trans hA2
  have hz : H.size = m + 4 := zN
  refine hr_putFA X hr_i3 hO hS haA 2 (by decide) (Nat.le_of_ble_eq_true rfl) rfl hnm rfl rfl rfl q413 dX2_init_24 (fun H locs hO zz oq hS => ?_)
  have hA1 := (oq (m + 1) (by omega)).trans hA1
  have hA2 := (oq (m + 2) (by omega)).trans hA2
  have hA3 := (oq (m + 3) (by omega)).trans hA3
  have hz := zz.trans hz
  refine lv_aload_n X.ex X.by dX2_init_27 rfl (lv_at hl 0 rfl) ?_
  refine lv_iconst (v := (-1)) X.ex X.by dX2_init_28 (by decide) ?_
  refine hr_putA X hr_i3 hO hS haA 9 (by decide) (Nat.le_of_ble_eq_true rfl) rfl rfl rfl q420 dX2_init_29 (fun H locs hO zz oq hS => ?_)
  have hA1 := (oq (m + 1) (by omega)).trans hA1
  have hA2 := (oq (m + 2) (by omega)).trans hA2
  have hA3 := (oq (m + 3) (by omega)).trans hA3
  have hz := zz.trans hz
  refine lv_aload_n X.ex X.by dX2_init_32 rfl (lv_at hl 0 rfl) ?_
  refine lv_sipush (v := 6000) X.ex X.by dX2_init_33 (by decide) ?_
  refine hr_newaA X hS hz (by decide) (N' := 6000) (by decide) (by decide) (Nat.le_of_ble_eq_true rfl) (Nat.le_of_ble_eq_true rfl) dX2_init_36 (fun H hA4 zN oN hS => ?_)
  have hO := hO.kept (oN m (by omega))
  have hA1 := (oN (m + 1) (by omega)).trans hA1
  have hA2 := (oN (m + 2) (by omega)).trans hA2
  have hA3 := (oN (m + 3) (by omega)).trans hA3
  have hz : H.size = m + 5 := zN
  refine hr_putFA X hr_i3 hO hS haA 13 (by decide) (Nat.le_of_ble_eq_true rfl) rfl hnm rfl rfl rfl q424 dX2_init_38 (fun H locs hO zz oq hS => ?_)
  have hA1 := (oq (m + 1) (by omega)).trans hA1
  have hA2 := (oq (m + 2) (by omega)).trans hA2
  have hA3 := (oq (m + 3) (by omega)).trans hA3
  have hA4 := (oq (m + 4) (by omega)).trans hA4
  have hz := zz.trans hz
  refine lv_aload_n X.ex X.by dX2_init_41 rfl (lv_at hl 0 rfl) ?_
  refine lv_bipush (v := 6) X.ex X.by dX2_init_42 (by decide) ?_
  refine hr_newaA X hS hz (by decide) (N' := 6) (by decide) (by decide) (Nat.le_of_ble_eq_true rfl) (Nat.le_of_ble_eq_true rfl) dX2_init_44 (fun H hA5 zN oN hS => ?_)
  have hO := hO.kept (oN m (by omega))
  have hA1 := (oN (m + 1) (by omega)).trans hA1
  have hA2 := (oN (m + 2) (by omega)).trans hA2
  have hA3 := (oN (m + 3) (by omega)).trans hA3
  have hA4 := (oN (m + 4) (by omega)).trans hA4
  have hz : H.size = m + 6 := zN
  refine hr_putFA X hr_i3 hO hS haA 15 (by decide) (Nat.le_of_ble_eq_true rfl) rfl hnm rfl rfl rfl q426 dX2_init_46 (fun H locs hO zz oq hS => ?_)
  have hA1 := (oq (m + 1) (by omega)).trans hA1
  have hA2 := (oq (m + 2) (by omega)).trans hA2
  have hA3 := (oq (m + 3) (by omega)).trans hA3
  have hA4 := (oq (m + 4) (by omega)).trans hA4
  have hA5 := (oq (m + 5) (by omega)).trans hA5
  have hz := zz.trans hz
  refine lv_aload_n X.ex X.by dX2_init_49 rfl (lv_at hl 0 rfl) ?_
  refine lv_bipush (v := 6) X.ex X.by dX2_init_50 (by decide) ?_
  refine hr_newaA X hS hz (by decide) (N' := 6) (by decide) (by decide) (Nat.le_of_ble_eq_true rfl) (Nat.le_of_ble_eq_true rfl) dX2_init_52 (fun H hA6 zN oN hS => ?_)
  have hO := hO.kept (oN m (by omega))
  have hA1 := (oN (m + 1) (by omega)).trans hA1
  have hA2 := (oN (m + 2) (by omega)).trans hA2
  have hA3 := (oN (m + 3) (by omega)).trans hA3
  have hA4 := (oN (m + 4) (by omega)).trans hA4
  have hA5 := (oN (m + 5) (by omega)).trans hA5
  have hz : H.size = m + 7 := zN
  refine hr_putFA X hr_i3 hO hS haA 16 (by decide) (Nat.le_of_ble_eq_true rfl) rfl hnm rfl rfl rfl q427 dX2_init_54 (fun H locs hO zz oq hS => ?_)
  have hA1 := (oq (m + 1) (by omega)).trans hA1
  have hA2 := (oq (m + 2) (by omega)).trans hA2
  have hA3 := (oq (m + 3) (by omega)).trans hA3
  have hA4 := (oq (m + 4) (by omega)).trans hA4
  have hA5 := (oq (m + 5) (by omega)).trans hA5
  have hA6 := (oq (m + 6) (by omega)).trans hA6
  have hz := zz.trans hz
  exact hr_vret X hr hlk hS ⟨rfl, ⟨fun _ => 0, fun _ => 0, trivial, hO, hA1, hA2, hA3, ⟨fun _ => 0, hA4, trivial⟩, hA5, hA6⟩, hz⟩ (Nat.le_of_ble_eq_true rfl) (Nat.le_of_ble_eq_true rfl) dX2_init_57
/-- the class as its constructor leaves it behind i racks -/
def hr_c0 (D : va_G) (g : ClassId × ClassId × ClassId) (b i : Nat) (H : Heap) : Prop :=
  t_OB b (D.1 0) 17 (D.2 0) H (vp_V (hr_cf b 0 0 0 0 0 0 0 0 0 0 0 0 0 (-1))) ∧ H[b + 1]? = some (arrV g.2.1 8 (fun k => if k < i then .ref (b + 4 + 2 * k) else .null)) ∧ H[b + 2]? = some (arrV g.2.2 4 (fun _ => .null)) ∧ H[b + 3]? = some (arrV g.1 2800 (fun _ => .int 0)) ∧
  (∀ k, k < i → t_OB (b + 4 + 2 * k) (D.1 1) 2 (D.2 1) H (vp_V [.ref (b + 5 + 2 * k), .int 0]) ∧ H[b + 5 + 2 * k]? = some (arrV g.1 12 (fun _ => .int 0))) ∧ H.size = b + 4 + 2 * i
/-- the class between calls -/
def hr_cK (D : va_G) (g : ClassId × ClassId × ClassId) (b z : Nat) (K : hp_K) (H : Heap) : Prop :=
  hr_cw D g b z (hr_cf b K.2.2.2.1 K.2.2.2.2.1 K.2.2.2.2.2.2.1 (nI K.2.2.2.2.2.2.2.1) 0 (nI K.2.2.2.2.2.2.2.2.1) 0 0 0 (nI K.2.2.2.2.2.2.2.2.2.2.length) K.2.2.2.2.2.1.1 K.2.2.2.2.2.1.2.1 K.2.2.2.2.2.1.2.2.1 K.2.2.2.2.2.1.2.2.2) K.1 K.2.1 K.2.2.1 K.2.2.2.2.2.2.2.2.2.2 H
theorem hr_c0.done {D : va_G} {g : ClassId × ClassId × ClassId} {b z : Nat} {H : Heap} (h : hr_c0 D g b 8 H) (hz : b + 20 ≤ z) : hr_cK D g b z hp_K0 H := by
  obtain ⟨h0, h1, h2, h3, h4, -⟩ := h
  refine ⟨hz, h0, ?_, ⟨fun _ => 0, h3, trivial⟩, fun i hi => (h4 i hi).1, fun i hi => (h4 i hi).2, fun _ => none, h2, fun k _ => Or.inl ⟨rfl, rfl⟩⟩
  rw [h1]
  unfold arrV
  congr 2
  try (funext j; simp [j.2])
set_option maxHeartbeats 4000000 in
theorem init_loop {p : Program} {l : Launch} {e : Env} {s : State} {m0 : MethodId} {args : Array Value} {below : List Frame} {meth : Method} {c : Code} {s0 : State} {D : va_G} {g : ClassId × ClassId × ClassId} {b : Nat} (X : hr_X p s m0 args c cX0_init 2 RX0 s0 D g (hr_A b 1 s.heap.size)) (hr : meth.sig.returnType = none) (hlk : meth.locks = false) (hz0 : s.heap.size = b + 1) :
    ∀ (n i : Nat), i + n = 8 → ∀ (H : Heap) (locs : List Loc) (ls : Array Slot), hr_c0 D g b i H → va_S (hr_A b 1 s.heap.size) s.heap H locs → lv_has ls 2 [(1, .int (nI i)), (0, .ref b)] → W p l e (hr_L 2 19 2924) s m0 args below meth c H locs (3 + 2 * i) (2812 + 14 * i) (hr_Q below (hr_Qc b 1 (hr_Qv (fun H => hr_c0 D g b 8 H))) args s 19 2924 (hr_A b 1 s.heap.size)) (F0 m0 37 ls []) := by
  have hreg : ∀ q : Nat, b ≤ q → hr_A b 1 s.heap.size q := fun q hq => by unfold hr_A; omega
  intro n
  induction n with
  | zero =>
    intro i hi H locs ls hC hS hl
    have hi8 : i = 8 := by omega
    subst hi8
    refine lv_iload_n X.ex X.by dX0_init_37 rfl (lv_at hl 0 rfl) ?_
    refine lv_bipush (v := 8) X.ex X.by dX0_init_38 (by decide) ?_
    refine lv_icmp_ge (tgt := 62) X.ex X.by dX0_init_40 (by decide) (fun c_40 => ?_) (fun c_40 => absurd (by decide : (8 : Int32) ≤ nI 8) c_40)
    exact hr_vret X hr hlk hS ⟨rfl, hC⟩ (Nat.le_refl _) (Nat.le_refl _) dX0_init_62
  | succ n ih =>
    intro i hi H locs ls hC hS hl
    obtain ⟨h0, h1, h2, h3, h4, hz⟩ := hC
    have hi8 : i < 8 := by omega
    refine lv_iload_n X.ex X.by dX0_init_37 rfl (lv_at hl 0 rfl) ?_
    refine lv_bipush (v := 8) X.ex X.by dX0_init_38 (by decide) ?_
    refine lv_icmp_ge (tgt := 62) X.ex X.by dX0_init_40 (by decide) (fun c_40 => absurd (show nI 8 ≤ nI i from c_40) (nI_ge hi8 (by decide))) (fun c_40 => ?_)
    refine lv_aload_n X.ex X.by dX0_init_43 rfl (lv_at hl 1 rfl) ?_
    refine hr_get X hr_i0 h0 0 (by decide) rfl q67 dX0_init_44 ?_
    refine lv_iload_n X.ex X.by dX0_init_47 rfl (lv_at hl 0 rfl) ?_
    refine hr_newA X hr_i1 hS hz q49 q53 q27 (fs := [.null, .int 0]) (fun j hj => by rcases (show j = 0 ∨ j = 1 by omega) with rfl | rfl <;> rfl) (by show 3 + 2 * i + 1 ≤ 19; omega) (by show 2812 + 14 * i + 2 ≤ 2924; omega) dX0_init_48 (fun H hN zN oN hS => ?_)
    refine lv_dup X.ex X.by dX0_init_51 rfl ?_
    refine hr_callINv (As := []) (lo := b + 4 + 2 * i) (n := 1) (mc := 1) (ms := 12) X (k_X1_init l X.2.1 (a := b + 4 + 2 * i) (by have := X.size; omega) zN) v_X1_init (lw_meth q56) hS (fun q hq _ => hreg q (by omega)) hN rfl rfl (hr_lR (by decide) ⟨Nat.le_of_ble_eq_true rfl, Nat.le_of_ble_eq_true rfl⟩) hl.1 rfl (Nat.le_of_ble_eq_true rfl) ⟨by show 3 + 2 * i + 1 + 1 ≤ 19; omega, by show 2812 + 14 * i + 2 + 12 ≤ 2924; omega⟩ dX0_init_52 (fun H1 locs hP hS hkp => ?_)
    obtain ⟨hP1, hP2, hP3⟩ := hP
    have hold : ∀ q : Nat, q < b + 4 + 2 * i → H1[q]? = _ := fun q hq => (hkp.2 q (by omega) (by omega)).trans (oN q hq)
    have h0 := h0.kept (hold b (by omega))
    have h1 := (hold (b + 1) (by omega)).trans h1
    have h2 := (hold (b + 2) (by omega)).trans h2
    have h3 := (hold (b + 3) (by omega)).trans h3
    have h4 : ∀ k, k < i → t_OB (b + 4 + 2 * k) (D.1 1) 2 (D.2 1) H1 (vp_V [.ref (b + 5 + 2 * k), .int 0]) ∧ H1[b + 5 + 2 * k]? = some (arrV g.1 12 (fun _ => .int 0)) := fun k hk => ⟨(h4 k hk).1.kept (hold _ (by omega)), (hold _ (by omega)).trans (h4 k hk).2⟩
    refine hr_aast X hr_i1 (t0 := 1) rfl h1 hP1 rfl hi8 (by decide) dX0_init_55 (fun H2 hA z2 o2 => ?_)
    have hS := hS.put (k := i) z2 o2 (hreg (b + 1) (by omega))
    refine lv_iinc (v := nI (i + 1)) X.ex X.by dX0_init_56 hl (k := 0) rfl (nI_1 i) (by decide) rfl (fun ls hl => ?_)
    refine lv_goto (tgt := 37) X.ex X.by dX0_init_59 (by decide) ?_
    refine W.widen (k := 3 + 2 * (i + 1)) (n := 2812 + 14 * (i + 1)) (by omega) (by omega) ?_
    refine ih (i + 1) (by omega) H2 _ ls ⟨h0.kept (o2 b (by omega)), ?_, (o2 _ (by omega)).trans h2, (o2 _ (by omega)).trans h3, fun k hk => ?_, by omega⟩ hS hl
    · rw [hA]
      congr 2
      funext k
      by_cases e : k = i
      · subst e
        simp [updV]
      · have e2 : (k < i + 1) = (k < i) := by simp only [eq_iff_iff]; omega
        simp [updV, e, e2]
    · by_cases e : k = i
      · subst e
        have e5 : b + 5 + 2 * k = b + 4 + 2 * k + 1 := by omega
        rw [e5]
        exact ⟨hP1.kept (o2 _ (by omega)), (o2 _ (by omega)).trans hP2⟩
      · exact ⟨(h4 k (by omega)).1.kept (o2 _ (by omega)), (o2 _ (by omega)).trans (h4 k (by omega)).2⟩
set_option maxHeartbeats 4000000 in
theorem k_X0_init (l : Launch) {s0 : State} {D : va_G} {g : ClassId × ClassId × ClassId} (Z : hr_Z s0 D g) {b sz : Nat} (h0 : s0.heap.size ≤ b) (hs1 : sz = b + 1) : hr_C l yX0_init (ws_ yX0_init cX0_init 2 none) (hr_L 2 19 2924) s0 b 1 sz [.ref b] (fun H => t_OB b (D.1 0) 17 (D.2 0) H (vp_V [.null, .null, .int 0, .int 0, .int 0, .int 0, .int 0, .int 0, .int 0, .int 0, .int 0, .int 0, .null, .int 0, .int 0, .int 0, .int 0])) (hr_Qv (fun H => hr_c0 D g b 8 H)) 19 2924 := by
  refine hr_meth (by decide) (Nat.le_of_ble_eq_true rfl) Z h0 ?_
  intro p e s m0 below meth c ls X hr hlk hnm htab hadm hsz hO hl
  have hl : lv_has ls 2 [(0, _)] := hl
  have hS := hr_S0 (s := s) (lo := b) (n := 1)
  have haA : hr_A b 1 s.heap.size b := Or.inl ⟨Nat.le_refl b, Nat.lt_succ_self b⟩
  have hz0 : s.heap.size = b + 1 := hsz.symm.trans hs1
  refine lv_aload_n X.ex X.by dX0_init_0 rfl (lv_at hl 0 rfl) ?_
  refine hr_obj X q46 hl.1 ⟨Nat.le_of_ble_eq_true rfl, Nat.le_of_ble_eq_true rfl⟩ (Nat.le_of_ble_eq_true rfl) dX0_init_1 ?_
  refine lv_aload_n X.ex X.by dX0_init_4 rfl (lv_at hl 0 rfl) ?_
  refine lv_bipush (v := 8) X.ex X.by dX0_init_5 (by decide) ?_
  refine hr_anewA X hS hz0 (t0 := 1) (E := RX1) rfl q49 q50 (by decide) (N' := 8) (by decide) (by decide) (Nat.le_of_ble_eq_true rfl) (Nat.le_of_ble_eq_true rfl) dX0_init_7 (fun H hA1 zN oN hS => ?_)
  have hO := hO.kept (oN b (by omega))
  refine hr_putFA X hr_i0 hO hS haA 0 (by decide) (Nat.le_of_ble_eq_true rfl) rfl hnm rfl rfl rfl q67 dX0_init_10 (fun H locs hO zz oq hS => ?_)
  have hA1 := (oq (b + 1) (by omega)).trans hA1
  have hz := zz.trans zN
  refine lv_aload_n X.ex X.by dX0_init_13 rfl (lv_at hl 0 rfl) ?_
  refine lv_iconst (v := 4) X.ex X.by dX0_init_14 (by decide) ?_
  refine hr_anewA X hS hz (t0 := 2) (E := RX3) rfl q51 q52 (by decide) (N' := 4) (by decide) (by decide) (Nat.le_of_ble_eq_true rfl) (Nat.le_of_ble_eq_true rfl) dX0_init_15 (fun H hA2 zN oN hS => ?_)
  have hO := hO.kept (oN b (by omega))
  have hA1 := (oN (b + 1) (by omega)).trans hA1
  refine hr_putFA X hr_i0 hO hS haA 1 (by decide) (Nat.le_of_ble_eq_true rfl) rfl hnm rfl rfl rfl q68 dX0_init_18 (fun H locs hO zz oq hS => ?_)
  have hA1 := (oq (b + 1) (by omega)).trans hA1
  have hA2 := (oq (b + 2) (by omega)).trans hA2
  have hz := zz.trans zN
  refine lv_aload_n X.ex X.by dX0_init_21 rfl (lv_at hl 0 rfl) ?_
  refine lv_sipush (v := 2800) X.ex X.by dX0_init_22 (by decide) ?_
  refine hr_newaA X hS hz (by decide) (N' := 2800) (by decide) (by decide) (Nat.le_of_ble_eq_true rfl) (Nat.le_of_ble_eq_true rfl) dX0_init_25 (fun H hA3 zN oN hS => ?_)
  have hO := hO.kept (oN b (by omega))
  have hA1 := (oN (b + 1) (by omega)).trans hA1
  have hA2 := (oN (b + 2) (by omega)).trans hA2
  refine hr_putFA X hr_i0 hO hS haA 12 (by decide) (Nat.le_of_ble_eq_true rfl) rfl hnm rfl rfl rfl q79 dX0_init_27 (fun H locs hO zz oq hS => ?_)
  have hA1 := (oq (b + 1) (by omega)).trans hA1
  have hA2 := (oq (b + 2) (by omega)).trans hA2
  have hA3 := (oq (b + 3) (by omega)).trans hA3
  have hz := zz.trans zN
  refine lv_aload_n X.ex X.by dX0_init_30 rfl (lv_at hl 0 rfl) ?_
  refine lv_iconst (v := (-1)) X.ex X.by dX0_init_31 (by decide) ?_
  refine hr_putA X hr_i0 hO hS haA 16 (by decide) (Nat.le_of_ble_eq_true rfl) rfl rfl rfl q83 dX0_init_32 (fun H locs hO zz oq hS => ?_)
  have hA1 := (oq (b + 1) (by omega)).trans hA1
  have hA2 := (oq (b + 2) (by omega)).trans hA2
  have hA3 := (oq (b + 3) (by omega)).trans hA3
  have hz := zz.trans hz
  refine lv_iconst (v := 0) X.ex X.by dX0_init_35 (by decide) ?_
  refine lv_istore_n X.ex X.by dX0_init_36 rfl hl (by decide) rfl (fun ls hl => ?_)
  have hl : lv_has ls 2 [(1, _), (0, _)] := hl
  exact init_loop X hr hlk hz0 8 0 rfl H locs ls ⟨hO, hA1, hA2, hA3, fun k hk => absurd hk (Nat.not_lt_zero _), hz⟩ hS hl
end HRO
end
section
/-! THE CLASS: write, failed, and the public methods but run -/
section HRC
/-- the class within a run: the failure's four numbers, lifts, ropes, brakes, lamps, the run's numbers -/
def hr_cG (D : va_G) (g : ClassId × ClassId × ClassId) (b z : Nat) (M : Nat → Nat) (C : Nat → Nat → Int32) (h : Nat → Int32) (ta lo : Int32) (f : Int32 × Int32 × Int32 × Int32) (li ro br lm : Int32) (σ : hp_S) (H : Heap) : Prop :=
  hr_cw D g b z (hr_cf b ta lo σ.1 (nI σ.2.1) li (nI σ.2.2.1) ro br lm (nI σ.2.2.2.2.length) f.1 f.2.1 f.2.2.1 f.2.2.2) M C h σ.2.2.2.2 H
theorem hr_cG.recv {p : Program} {s : State} {m0 : MethodId} {args : Array Value} {c : Code} {cc : ByteArray} {nL : Nat} {own : String} {s0 : State} {D : va_G} {g : ClassId × ClassId × ClassId} {A : Nat → Prop} (X : hr_X p s m0 args c cc nL own s0 D g A) {b z : Nat} {M : Nat → Nat} {C : Nat → Nat → Int32} {h : Nat → Int32} {ta lo : Int32} {f : Int32 × Int32 × Int32 × Int32} {li ro br lm : Int32} {σ : hp_S} {H : Heap} (hC : hr_cG D g b z M C h ta lo f li ro br lm σ H) : ∃ cell : Cell, H[b]? = some cell ∧ cell.vm.isStatics = false ∧ s.vm.findClass RX0 = some cell.cls :=
  hr_recv X hr_i0 hC.2.1
theorem hr_cG.exc {D : va_G} {g : ClassId × ClassId × ClassId} {b z : Nat} {M : Nat → Nat} {C : Nat → Nat → Int32} {h : Nat → Int32} {ta lo : Int32} {f : Int32 × Int32 × Int32 × Int32} {li ro br lm : Int32} {σ : hp_S} {H : Heap} (hC : hr_cG D g b z M C h ta lo f li ro br lm σ H) : hr_cG D g b z M C h ta lo f li ro br lm (hp_exc σ) H := by
  unfold hr_cG at hC ⊢
  exact hC
theorem hr_cG.K {D : va_G} {g : ClassId × ClassId × ClassId} {b z : Nat} {K : hp_K} {H : Heap} (hC : hr_cK D g b z K H) : hr_cG D g b z K.1 K.2.1 K.2.2.1 K.2.2.2.1 K.2.2.2.2.1 K.2.2.2.2.2.1 0 0 0 0 K.2.2.2.2.2.2 H := hC
set_option maxHeartbeats 4000000 in
theorem k_X0_write (l : Launch) {s0 : State} {D : va_G} {g : ClassId × ClassId × ClassId} (Z : hr_Z s0 D g) {b z : Nat} (h0 : s0.heap.size ≤ b) {M : Nat → Nat} {C : Nat → Nat → Int32} {h : Nat → Int32} {ta lo : Int32} {f : Int32 × Int32 × Int32 × Int32} {li ro br lm : Int32} {σ : hp_S} (n : Int32) (hn : hp_n σ < 2800) {sz : Nat} : hr_C l yX0_write (ws_ yX0_write cX0_write 2 none) (hr_L 0 0 0) s0 b 20 sz [.ref b, .int n] (fun H => hr_cG D g b z M C h ta lo f li ro br lm σ H) (hr_Qv (fun H => hr_cG D g b z M C h ta lo f li ro br lm (hp_wr n σ) H)) 0 0 := by
  refine hr_meth (by decide) (Nat.le_of_ble_eq_true rfl) Z h0 ?_
  intro p e s m0 below meth c ls X hr hlk hnm htab hadm hsz hC hl
  have hl : lv_has ls 2 [(0, _), (1, _)] := hl
  have hreg := hr_reg (lo := b) (n := 20) (sz := s.heap.size)
  have hS := hr_S0 (s := s) (lo := b) (n := 20)
  have hC : hr_cw D g b z (hr_cf b ta lo σ.1 (nI σ.2.1) li (nI σ.2.2.1) ro br lm (nI σ.2.2.2.2.length) f.1 f.2.1 f.2.2.1 f.2.2.2) M C h σ.2.2.2.2 s.heap := hC
  refine lv_aload_n X.ex X.by dX0_write_0 rfl (lv_at hl 0 rfl) ?_
  refine hr_cget X hC 12 (by decide) rfl q79 dX0_write_1 ?_
  refine lv_aload_n X.ex X.by dX0_write_4 rfl (lv_at hl 0 rfl) ?_
  refine hr_cget X hC 11 (by decide) rfl q78 dX0_write_5 ?_
  refine lv_iload_n X.ex X.by dX0_write_8 rfl (lv_at hl 1 rfl) ?_
  refine hr_cjst X hC hS hreg rfl hn dX0_write_9 (fun H locs hC hS _ => ?_)
  refine lv_aload_n X.ex X.by dX0_write_10 rfl (lv_at hl 0 rfl) ?_
  refine lv_dup X.ex X.by dX0_write_11 rfl ?_
  refine hr_cget X hC 11 (by decide) rfl q78 dX0_write_12 ?_
  refine lv_iconst (v := 1) X.ex X.by dX0_write_15 (by decide) ?_
  refine lv_iadd X.ex X.by dX0_write_16 ?_
  refine hr_cput X hC hS hreg 11 (by decide) (Nat.le_of_ble_eq_true rfl) rfl rfl q78 dX0_write_17 (fun H locs hC hS _ => ?_)
  rw [nI_1] at hC
  exact hr_vret X hr hlk hS ⟨rfl, hC⟩ (Nat.le_refl _) (Nat.le_refl _) dX0_write_20
theorem c_X0_write {p : Program} {l : Launch} {e : Env} {R : Room} {s : State} {m0 : MethodId} {args : Array Value} {below : List Frame} {meth : Method} {c : Code} {H : Heap} {locs : List Loc} {cells slots : Nat} {Q : State → Prop} {cc : ByteArray} {nL : Nat} {s0 : State} {D : va_G} {g : ClassId × ClassId × ClassId} {A : Nat → Prop} {pc : Nat} {ls : Array Slot} {rest : List Value} {b z : Nat} (X : hr_X p s m0 args c cc nL RX0 s0 D g A) {M : Nat → Nat} {C : Nat → Nat → Int32} {h : Nat → Int32} {ta lo : Int32} {f : Int32 × Int32 × Int32 × Int32} {li ro br lm : Int32} {σ : hp_S} {n : Int32} (hC : hr_cG D g b z M C h ta lo f li ro br lm σ H) (hn : hp_n σ < 2800) (hS : va_S A s.heap H locs) (hreg : ∀ q : Nat, b ≤ q → q < b + 20 → A q) (hR : 1 ≤ R.frames ∧ 40 ≤ R.locals) (hf : cells ≤ R.cells ∧ slots ≤ R.slots) (hsize : ls.size = nL) (hW : (rest.map fun v => v.category).sum ≤ 8) (hdg : decode cc pc = .ok (.invokevirtual 68, 3))
    (kk : ∀ (H1 : Heap) (locs1 : List Loc), hr_cG D g b z M C h ta lo f li ro br lm (hp_wr n σ) H1 → va_S A s.heap H1 locs1 → hr_kp b 20 H H1 → W p l e R s m0 args below meth c H1 locs1 cells slots Q (F0 m0 (pc + 3) ls rest)) : W p l e R s m0 args below meth c H locs cells slots Q (F0 m0 pc ls (.int n :: .ref b :: rest)) :=
  hr_callVv X (k_X0_write l X.2.1 (X.2.2.2.1 b (hreg b (Nat.le_refl b) (by omega))) n hn) v_X0_write (lw_meth q324) hS hreg (hr_cG.recv X hC) hC rfl rfl (hr_lR (by decide) hR) hsize rfl hW hf hdg (fun H1 locs1 hP hS9 hk9 => kk H1 locs1 hP hS9 hk9)
set_option maxHeartbeats 4000000 in
theorem k_X0_failed (l : Launch) {s0 : State} {D : va_G} {g : ClassId × ClassId × ClassId} (Z : hr_Z s0 D g) {b z : Nat} (h0 : s0.heap.size ≤ b) {M : Nat → Nat} {C : Nat → Nat → Int32} {h : Nat → Int32} {ta lo : Int32} {f : Int32 × Int32 × Int32 × Int32} {li ro br lm : Int32} {σ : hp_S} (n : Int32)  {sz : Nat} : hr_C l yX0_failed (ws_ yX0_failed cX0_failed 2 none) (hr_L 0 0 0) s0 b 20 sz [.ref b, .int n] (fun H => hr_cG D g b z M C h ta lo f li ro br lm σ H) (hr_Qv (fun H => hr_cG D g b z M C h ta lo (n, f.2.1, n, f.2.2.2) li ro br lm σ H)) 0 0 := by
  refine hr_meth (by decide) (Nat.le_of_ble_eq_true rfl) Z h0 ?_
  intro p e s m0 below meth c ls X hr hlk hnm htab hadm hsz hC hl
  have hl : lv_has ls 2 [(0, _), (1, _)] := hl
  have hreg := hr_reg (lo := b) (n := 20) (sz := s.heap.size)
  have hS := hr_S0 (s := s) (lo := b) (n := 20)
  have hC : hr_cw D g b z (hr_cf b ta lo σ.1 (nI σ.2.1) li (nI σ.2.2.1) ro br lm (nI σ.2.2.2.2.length) f.1 f.2.1 f.2.2.1 f.2.2.2) M C h σ.2.2.2.2 s.heap := hC
  refine lv_aload_n X.ex X.by dX0_failed_0 rfl (lv_at hl 0 rfl) ?_
  refine lv_iload_n X.ex X.by dX0_failed_1 rfl (lv_at hl 1 rfl) ?_
  refine hr_cput X hC hS hreg 13 (by decide) (Nat.le_of_ble_eq_true rfl) rfl rfl q80 dX0_failed_2 (fun H locs hC hS _ => ?_)
  refine lv_aload_n X.ex X.by dX0_failed_5 rfl (lv_at hl 0 rfl) ?_
  refine lv_iload_n X.ex X.by dX0_failed_6 rfl (lv_at hl 1 rfl) ?_
  refine hr_cput X hC hS hreg 15 (by decide) (Nat.le_of_ble_eq_true rfl) rfl rfl q82 dX0_failed_7 (fun H locs hC hS _ => ?_)
  exact hr_vret X hr hlk hS ⟨rfl, hC⟩ (Nat.le_refl _) (Nat.le_refl _) dX0_failed_10
theorem c_X0_failed {p : Program} {l : Launch} {e : Env} {R : Room} {s : State} {m0 : MethodId} {args : Array Value} {below : List Frame} {meth : Method} {c : Code} {H : Heap} {locs : List Loc} {cells slots : Nat} {Q : State → Prop} {cc : ByteArray} {nL : Nat} {s0 : State} {D : va_G} {g : ClassId × ClassId × ClassId} {A : Nat → Prop} {pc : Nat} {ls : Array Slot} {rest : List Value} {b z : Nat} (X : hr_X p s m0 args c cc nL RX0 s0 D g A) {M : Nat → Nat} {C : Nat → Nat → Int32} {h : Nat → Int32} {ta lo : Int32} {f : Int32 × Int32 × Int32 × Int32} {li ro br lm : Int32} {σ : hp_S} {n : Int32} (hC : hr_cG D g b z M C h ta lo f li ro br lm σ H)  (hS : va_S A s.heap H locs) (hreg : ∀ q : Nat, b ≤ q → q < b + 20 → A q) (hR : 1 ≤ R.frames ∧ 40 ≤ R.locals) (hf : cells ≤ R.cells ∧ slots ≤ R.slots) (hsize : ls.size = nL) (hW : (rest.map fun v => v.category).sum ≤ 8) (hdg : decode cc pc = .ok (.invokevirtual 124, 3))
    (kk : ∀ (H1 : Heap) (locs1 : List Loc), hr_cG D g b z M C h ta lo (n, f.2.1, n, f.2.2.2) li ro br lm σ H1 → va_S A s.heap H1 locs1 → hr_kp b 20 H H1 → W p l e R s m0 args below meth c H1 locs1 cells slots Q (F0 m0 (pc + 3) ls rest)) : W p l e R s m0 args below meth c H locs cells slots Q (F0 m0 pc ls (.int n :: .ref b :: rest)) :=
  hr_callVv X (k_X0_failed l X.2.1 (X.2.2.2.1 b (hreg b (Nat.le_refl b) (by omega))) n ) v_X0_failed (lw_meth q292) hS hreg (hr_cG.recv X hC) hC rfl rfl (hr_lR (by decide) hR) hsize rfl hW hf hdg (fun H1 locs1 hP hS9 hk9 => kk H1 locs1 hP hS9 hk9)
theorem hp_ok_rem {c : Int32} (h1 : 1000 ≤ c) (h2 : c < 4000) : (0 ≤ c - c / 1000 * 1000 ∧ c - c / 1000 * 1000 ≤ 7) ↔ hp_ok c := by
  obtain ⟨a, ha, rfl⟩ := nI_of (x := c) (Int32.not_lt.mpr (Int32.le_trans (by decide) h1))
  have er : nI a - nI a / 1000 * 1000 = nI (a % 1000) := pk_rem ha (by decide) (by decide)
  rw [er]
  have ea := nI_toInt ha
  have em := nI_toInt (n := a % 1000) (by omega)
  unfold hp_ok
  simp only [hp_le, hp_lt] at h1 h2 ⊢
  rw [ea] at h1 h2 ⊢
  rw [em]
  have e0 : (0 : Int32).toInt = 0 := by decide
  have e1 : (1 : Int32).toInt = 1 := by decide
  have e7 : (7 : Int32).toInt = 7 := by decide
  have e9 : (999 : Int32).toInt = 999 := by decide
  have k1 : (1000 : Int32).toInt = 1000 := by decide
  have k17 : (1007 : Int32).toInt = 1007 := by decide
  have k2 : (2000 : Int32).toInt = 2000 := by decide
  have k27 : (2007 : Int32).toInt = 2007 := by decide
  have k3 : (3000 : Int32).toInt = 3000 := by decide
  have k37 : (3007 : Int32).toInt = 3007 := by decide
  have k4 : (4000 : Int32).toInt = 4000 := by decide
  have m4 : (-4 : Int32).toInt = -4 := by decide
  have m1 : (-1 : Int32).toInt = -1 := by decide
  have m15 : (-15 : Int32).toInt = -15 := by decide
  have m10 : (-10 : Int32).toInt = -10 := by decide
  rw [k1] at h1
  rw [k4] at h2
  rw [e0, e1, e7, e9, k1, k17, k2, k27, k3, k37, m4, m1, m15, m10]
  omega
theorem hp_ok_out {c : Int32} (h1 : ¬ (1 ≤ c ∧ c ≤ 999)) (h2 : ¬ (-4 ≤ c ∧ c ≤ -1)) (h3 : ¬ (-15 ≤ c ∧ c ≤ -10)) (h4 : c < 1000 ∨ 4000 ≤ c) : ¬ hp_ok c := by
  unfold hp_ok
  simp only [hp_le, hp_lt] at h1 h2 h3 h4 ⊢
  have k1 : (1000 : Int32).toInt = 1000 := by decide
  have k17 : (1007 : Int32).toInt = 1007 := by decide
  have k2 : (2000 : Int32).toInt = 2000 := by decide
  have k27 : (2007 : Int32).toInt = 2007 := by decide
  have k3 : (3000 : Int32).toInt = 3000 := by decide
  have k37 : (3007 : Int32).toInt = 3007 := by decide
  have k4 : (4000 : Int32).toInt = 4000 := by decide
  rw [k1, k4] at h4
  rw [k1, k17, k2, k27, k3, k37]
  omega
set_option maxHeartbeats 4000000 in
theorem k_X0_cell (l : Launch) {s0 : State} {D : va_G} {g : ClassId × ClassId × ClassId} (Z : hr_Z s0 D g) {b z : Nat} (h0 : s0.heap.size ≤ b) {K : hp_K} (hV : hp_KV K) (r : Int32) (n : Int32) {sz : Nat} : hr_C l yX0_cell (ws_ yX0_cell cX0_cell 5 (some .int)) (hr_L 2 0 0) s0 b 20 sz [.ref b, .int r, .int n] (fun H => hr_cK D g b z K H) (hr_Qi (fun v H => v = (ho_cell K r n).1 ∧ hr_cK D g b z (ho_cell K r n).2 H)) 0 0 := by
  refine hr_meth (by decide) (Nat.le_of_ble_eq_true rfl) Z h0 ?_
  intro p e s m0 below meth c ls X hr hlk hnm htab hadm hsz hC hl
  have hl : lv_has ls 5 [(0, _), (1, _), (2, _)] := hl
  have hreg := hr_reg (lo := b) (n := 20) (sz := s.heap.size)
  have hS := hr_S0 (s := s) (lo := b) (n := 20)
  obtain ⟨M, C, h, ta, lo, f, σ⟩ := K
  obtain ⟨hM, hok, hn⟩ := hV
  have hM : ∀ r, r < 8 → M r ≤ 12 := hM
  have hok : ∀ r k, r < 8 → k < M r → hp_ok (C r k) := hok
  have hn : hp_n σ ≤ 2800 := hn
  have hC : hr_cw D g b z (hr_cf b ta lo σ.1 (nI σ.2.1) 0 (nI σ.2.2.1) 0 0 0 (nI σ.2.2.2.2.length) f.1 f.2.1 f.2.2.1 f.2.2.2) M C h σ.2.2.2.2 s.heap := hC
  refine lv_iload_n X.ex X.by dX0_cell_0 rfl (lv_at hl 1 rfl) ?_
  refine c_X0_isRack X hS ⟨Nat.le_of_ble_eq_true rfl, Nat.le_of_ble_eq_true rfl⟩ ⟨Nat.zero_le _, Nat.zero_le _⟩ hl.1 (Nat.le_of_ble_eq_true rfl) dX0_cell_1 (fun locs hS => ?_)
  refine lv_if_ne (tgt := 10) X.ex X.by dX0_cell_4 (by decide) (fun c_4 => ?_) (fun c_4 => ?_)
  · obtain ⟨j, ej, hj8, ei⟩ : ∃ j, r.toNatClampNeg = j ∧ j < 8 ∧ r = nI j := ⟨_, rfl, (hp_rk_lt (hr_if1 c_4)).1, (hp_rk_lt (hr_if1 c_4)).2⟩
    refine lv_iload_n X.ex X.by dX0_cell_10 rfl (lv_at hl 2 rfl) ?_
    refine lv_iconst (v := 1) X.ex X.by dX0_cell_11 (by decide) ?_
    refine lv_sipush (v := 999) X.ex X.by dX0_cell_12 (by decide) ?_
    refine c_X0_in X hS ⟨Nat.le_of_ble_eq_true rfl, Nat.le_of_ble_eq_true rfl⟩ ⟨Nat.zero_le _, Nat.zero_le _⟩ hl.1 (Nat.le_of_ble_eq_true rfl) dX0_cell_15 (fun locs hS => ?_)
    refine lv_if_ne (tgt := 67) X.ex X.by dX0_cell_18 (by decide) (fun c_18 => ?_) (fun c_18 => ?_)
    · have hgood : hp_ok n := by
        first
          | exact Or.inl (hr_if1 c_18)
          | exact Or.inr (Or.inl (hr_if1 c_28))
          | exact Or.inr (Or.inr (Or.inl (hr_if1 c_39)))
          | exact (hp_ok_rem (Int32.not_lt.mp c_46) (Int32.not_le.mp c_53)).mp (hr_if1 c_64)
      refine lv_iconst (v := 1) X.ex X.by dX0_cell_67 (by decide) ?_
      refine lv_goto (tgt := 72) X.ex X.by dX0_cell_68 (by decide) ?_
      refine lv_istore_n X.ex X.by dX0_cell_72 rfl hl (by decide) rfl (fun ls hl => ?_)
      have hl : lv_has ls 5 [(3, _), (0, _), (1, _), (2, _)] := hl
      refine lv_iload_n X.ex X.by dX0_cell_73 rfl (lv_at hl 0 rfl) ?_
      refine lv_if_ne (tgt := 80) X.ex X.by dX0_cell_74 (by decide) (fun c_74 => ?_) (fun c_74 => absurd c_74 (by decide))
      refine lv_aload_n X.ex X.by dX0_cell_80 rfl (lv_at hl 1 rfl) ?_
      refine hr_cget X hC 0 (by decide) rfl q67 dX0_cell_81 ?_
      refine lv_iload_n X.ex X.by dX0_cell_84 rfl (lv_at hl 2 rfl) ?_
      refine hr_crk X hC ei hj8 dX0_cell_85 ?_
      refine lv_astore X.ex X.by dX0_cell_86 hl (by decide) rfl (fun ls hl => ?_)
      have hl : lv_has ls 5 [(4, _), (3, _), (0, _), (1, _), (2, _)] := hl
      refine lv_aload X.ex X.by dX0_cell_88 (lv_at hl 0 rfl) ?_
      refine hr_cmany X hC hj8 q60 dX0_cell_90 ?_
      refine lv_bipush (v := 12) X.ex X.by dX0_cell_93 (by decide) ?_
      refine lv_icmp_ne (tgt := 101) X.ex X.by dX0_cell_95 (by decide) (fun c_95 => ?_) (fun c_95 => ?_)
      · have c28 : ¬ M j = 12 := fun z => c_95 (by rw [z]; rfl)
        refine lv_aload X.ex X.by dX0_cell_101 (lv_at hl 0 rfl) ?_
        refine hr_ccells X hC hj8 q59 dX0_cell_103 ?_
        refine lv_aload X.ex X.by dX0_cell_106 (lv_at hl 0 rfl) ?_
        refine hr_cmany X hC hj8 q60 dX0_cell_108 ?_
        refine lv_iload_n X.ex X.by dX0_cell_111 rfl (lv_at hl 4 rfl) ?_
        refine hr_ccst X hC hS hreg hj8 rfl (by have := hM j hj8; omega) dX0_cell_112 (fun H locs hC hS _ => ?_)
        refine lv_aload X.ex X.by dX0_cell_113 (lv_at hl 0 rfl) ?_
        refine lv_dup X.ex X.by dX0_cell_115 rfl ?_
        refine hr_cmany X hC hj8 q60 dX0_cell_116 ?_
        refine lv_iconst (v := 1) X.ex X.by dX0_cell_119 (by decide) ?_
        refine lv_iadd X.ex X.by dX0_cell_120 ?_
        refine hr_cmput X hC hS hreg hj8 (M j + 1) (nI_1 _) q60 dX0_cell_121 (fun H locs hC hS _ => ?_)
        refine lv_aload X.ex X.by dX0_cell_124 (lv_at hl 0 rfl) ?_
        refine hr_cmany X hC hj8 q60 dX0_cell_126 ?_
        refine lv_iconst (v := 1) X.ex X.by dX0_cell_129 (by decide) ?_
        refine lv_isub X.ex X.by dX0_cell_130 ?_
        have eK : ho_cell (M, C, h, ta, lo, f, σ) r n = (nI (M j), va_up M j (M j + 1), va_up C j (upd (C j) (M j) n), h, ta, lo, f, σ) := by unfold ho_cell; dsimp only; rw [if_neg (fun z => z (hr_if1 c_4)), if_neg (fun z => z hgood), ej, if_neg c28]
        have e9 : va_up M j (M j + 1) j = M j + 1 := by simp [va_up]
        rw [e9, nI_pred]
        exact hr_iret X hr hlk hS ⟨_, rfl, by rw [eK], by rw [eK]; exact hC⟩ (Nat.le_refl _) (Nat.le_refl _) dX0_cell_131
      · have c28 : M j = 12 := (nI_eq (by have := hM j hj8; omega) (by decide)).mp (show nI (M j) = nI 12 from c_95)
        refine lv_bipush (v := (-103)) X.ex X.by dX0_cell_98 (by decide) ?_
        have eK : ho_cell (M, C, h, ta, lo, f, σ) r n = (-103, (M, C, h, ta, lo, f, σ)) := by unfold ho_cell; dsimp only; rw [if_neg (fun z => z (hr_if1 c_4)), if_neg (fun z => z hgood), ej, if_pos c28]
        exact hr_iret X hr hlk hS ⟨_, rfl, by rw [eK], by rw [eK]; exact hC⟩ (Nat.le_refl _) (Nat.le_refl _) dX0_cell_100
    · refine lv_iload_n X.ex X.by dX0_cell_21 rfl (lv_at hl 2 rfl) ?_
      refine lv_bipush (v := (-4)) X.ex X.by dX0_cell_22 (by decide) ?_
      refine lv_iconst (v := (-1)) X.ex X.by dX0_cell_24 (by decide) ?_
      refine c_X0_in X hS ⟨Nat.le_of_ble_eq_true rfl, Nat.le_of_ble_eq_true rfl⟩ ⟨Nat.zero_le _, Nat.zero_le _⟩ hl.1 (Nat.le_of_ble_eq_true rfl) dX0_cell_25 (fun locs hS => ?_)
      refine lv_if_ne (tgt := 67) X.ex X.by dX0_cell_28 (by decide) (fun c_28 => ?_) (fun c_28 => ?_)
      · have hgood : hp_ok n := by
          first
            | exact Or.inl (hr_if1 c_18)
            | exact Or.inr (Or.inl (hr_if1 c_28))
            | exact Or.inr (Or.inr (Or.inl (hr_if1 c_39)))
            | exact (hp_ok_rem (Int32.not_lt.mp c_46) (Int32.not_le.mp c_53)).mp (hr_if1 c_64)
        refine lv_iconst (v := 1) X.ex X.by dX0_cell_67 (by decide) ?_
        refine lv_goto (tgt := 72) X.ex X.by dX0_cell_68 (by decide) ?_
        refine lv_istore_n X.ex X.by dX0_cell_72 rfl hl (by decide) rfl (fun ls hl => ?_)
        have hl : lv_has ls 5 [(3, _), (0, _), (1, _), (2, _)] := hl
        refine lv_iload_n X.ex X.by dX0_cell_73 rfl (lv_at hl 0 rfl) ?_
        refine lv_if_ne (tgt := 80) X.ex X.by dX0_cell_74 (by decide) (fun c_74 => ?_) (fun c_74 => absurd c_74 (by decide))
        refine lv_aload_n X.ex X.by dX0_cell_80 rfl (lv_at hl 1 rfl) ?_
        refine hr_cget X hC 0 (by decide) rfl q67 dX0_cell_81 ?_
        refine lv_iload_n X.ex X.by dX0_cell_84 rfl (lv_at hl 2 rfl) ?_
        refine hr_crk X hC ei hj8 dX0_cell_85 ?_
        refine lv_astore X.ex X.by dX0_cell_86 hl (by decide) rfl (fun ls hl => ?_)
        have hl : lv_has ls 5 [(4, _), (3, _), (0, _), (1, _), (2, _)] := hl
        refine lv_aload X.ex X.by dX0_cell_88 (lv_at hl 0 rfl) ?_
        refine hr_cmany X hC hj8 q60 dX0_cell_90 ?_
        refine lv_bipush (v := 12) X.ex X.by dX0_cell_93 (by decide) ?_
        refine lv_icmp_ne (tgt := 101) X.ex X.by dX0_cell_95 (by decide) (fun c_95 => ?_) (fun c_95 => ?_)
        · have c28 : ¬ M j = 12 := fun z => c_95 (by rw [z]; rfl)
          refine lv_aload X.ex X.by dX0_cell_101 (lv_at hl 0 rfl) ?_
          refine hr_ccells X hC hj8 q59 dX0_cell_103 ?_
          refine lv_aload X.ex X.by dX0_cell_106 (lv_at hl 0 rfl) ?_
          refine hr_cmany X hC hj8 q60 dX0_cell_108 ?_
          refine lv_iload_n X.ex X.by dX0_cell_111 rfl (lv_at hl 4 rfl) ?_
          refine hr_ccst X hC hS hreg hj8 rfl (by have := hM j hj8; omega) dX0_cell_112 (fun H locs hC hS _ => ?_)
          refine lv_aload X.ex X.by dX0_cell_113 (lv_at hl 0 rfl) ?_
          refine lv_dup X.ex X.by dX0_cell_115 rfl ?_
          refine hr_cmany X hC hj8 q60 dX0_cell_116 ?_
          refine lv_iconst (v := 1) X.ex X.by dX0_cell_119 (by decide) ?_
          refine lv_iadd X.ex X.by dX0_cell_120 ?_
          refine hr_cmput X hC hS hreg hj8 (M j + 1) (nI_1 _) q60 dX0_cell_121 (fun H locs hC hS _ => ?_)
          refine lv_aload X.ex X.by dX0_cell_124 (lv_at hl 0 rfl) ?_
          refine hr_cmany X hC hj8 q60 dX0_cell_126 ?_
          refine lv_iconst (v := 1) X.ex X.by dX0_cell_129 (by decide) ?_
          refine lv_isub X.ex X.by dX0_cell_130 ?_
          have eK : ho_cell (M, C, h, ta, lo, f, σ) r n = (nI (M j), va_up M j (M j + 1), va_up C j (upd (C j) (M j) n), h, ta, lo, f, σ) := by unfold ho_cell; dsimp only; rw [if_neg (fun z => z (hr_if1 c_4)), if_neg (fun z => z hgood), ej, if_neg c28]
          have e9 : va_up M j (M j + 1) j = M j + 1 := by simp [va_up]
          rw [e9, nI_pred]
          exact hr_iret X hr hlk hS ⟨_, rfl, by rw [eK], by rw [eK]; exact hC⟩ (Nat.le_refl _) (Nat.le_refl _) dX0_cell_131
        · have c28 : M j = 12 := (nI_eq (by have := hM j hj8; omega) (by decide)).mp (show nI (M j) = nI 12 from c_95)
          refine lv_bipush (v := (-103)) X.ex X.by dX0_cell_98 (by decide) ?_
          have eK : ho_cell (M, C, h, ta, lo, f, σ) r n = (-103, (M, C, h, ta, lo, f, σ)) := by unfold ho_cell; dsimp only; rw [if_neg (fun z => z (hr_if1 c_4)), if_neg (fun z => z hgood), ej, if_pos c28]
          exact hr_iret X hr hlk hS ⟨_, rfl, by rw [eK], by rw [eK]; exact hC⟩ (Nat.le_refl _) (Nat.le_refl _) dX0_cell_100
      · refine lv_iload_n X.ex X.by dX0_cell_31 rfl (lv_at hl 2 rfl) ?_
        refine lv_bipush (v := (-15)) X.ex X.by dX0_cell_32 (by decide) ?_
        refine lv_bipush (v := (-10)) X.ex X.by dX0_cell_34 (by decide) ?_
        refine c_X0_in X hS ⟨Nat.le_of_ble_eq_true rfl, Nat.le_of_ble_eq_true rfl⟩ ⟨Nat.zero_le _, Nat.zero_le _⟩ hl.1 (Nat.le_of_ble_eq_true rfl) dX0_cell_36 (fun locs hS => ?_)
        refine lv_if_ne (tgt := 67) X.ex X.by dX0_cell_39 (by decide) (fun c_39 => ?_) (fun c_39 => ?_)
        · have hgood : hp_ok n := by
            first
              | exact Or.inl (hr_if1 c_18)
              | exact Or.inr (Or.inl (hr_if1 c_28))
              | exact Or.inr (Or.inr (Or.inl (hr_if1 c_39)))
              | exact (hp_ok_rem (Int32.not_lt.mp c_46) (Int32.not_le.mp c_53)).mp (hr_if1 c_64)
          refine lv_iconst (v := 1) X.ex X.by dX0_cell_67 (by decide) ?_
          refine lv_goto (tgt := 72) X.ex X.by dX0_cell_68 (by decide) ?_
          refine lv_istore_n X.ex X.by dX0_cell_72 rfl hl (by decide) rfl (fun ls hl => ?_)
          have hl : lv_has ls 5 [(3, _), (0, _), (1, _), (2, _)] := hl
          refine lv_iload_n X.ex X.by dX0_cell_73 rfl (lv_at hl 0 rfl) ?_
          refine lv_if_ne (tgt := 80) X.ex X.by dX0_cell_74 (by decide) (fun c_74 => ?_) (fun c_74 => absurd c_74 (by decide))
          refine lv_aload_n X.ex X.by dX0_cell_80 rfl (lv_at hl 1 rfl) ?_
          refine hr_cget X hC 0 (by decide) rfl q67 dX0_cell_81 ?_
          refine lv_iload_n X.ex X.by dX0_cell_84 rfl (lv_at hl 2 rfl) ?_
          refine hr_crk X hC ei hj8 dX0_cell_85 ?_
          refine lv_astore X.ex X.by dX0_cell_86 hl (by decide) rfl (fun ls hl => ?_)
          have hl : lv_has ls 5 [(4, _), (3, _), (0, _), (1, _), (2, _)] := hl
          refine lv_aload X.ex X.by dX0_cell_88 (lv_at hl 0 rfl) ?_
          refine hr_cmany X hC hj8 q60 dX0_cell_90 ?_
          refine lv_bipush (v := 12) X.ex X.by dX0_cell_93 (by decide) ?_
          refine lv_icmp_ne (tgt := 101) X.ex X.by dX0_cell_95 (by decide) (fun c_95 => ?_) (fun c_95 => ?_)
          · have c28 : ¬ M j = 12 := fun z => c_95 (by rw [z]; rfl)
            refine lv_aload X.ex X.by dX0_cell_101 (lv_at hl 0 rfl) ?_
            refine hr_ccells X hC hj8 q59 dX0_cell_103 ?_
            refine lv_aload X.ex X.by dX0_cell_106 (lv_at hl 0 rfl) ?_
            refine hr_cmany X hC hj8 q60 dX0_cell_108 ?_
            refine lv_iload_n X.ex X.by dX0_cell_111 rfl (lv_at hl 4 rfl) ?_
            refine hr_ccst X hC hS hreg hj8 rfl (by have := hM j hj8; omega) dX0_cell_112 (fun H locs hC hS _ => ?_)
            refine lv_aload X.ex X.by dX0_cell_113 (lv_at hl 0 rfl) ?_
            refine lv_dup X.ex X.by dX0_cell_115 rfl ?_
            refine hr_cmany X hC hj8 q60 dX0_cell_116 ?_
            refine lv_iconst (v := 1) X.ex X.by dX0_cell_119 (by decide) ?_
            refine lv_iadd X.ex X.by dX0_cell_120 ?_
            refine hr_cmput X hC hS hreg hj8 (M j + 1) (nI_1 _) q60 dX0_cell_121 (fun H locs hC hS _ => ?_)
            refine lv_aload X.ex X.by dX0_cell_124 (lv_at hl 0 rfl) ?_
            refine hr_cmany X hC hj8 q60 dX0_cell_126 ?_
            refine lv_iconst (v := 1) X.ex X.by dX0_cell_129 (by decide) ?_
            refine lv_isub X.ex X.by dX0_cell_130 ?_
            have eK : ho_cell (M, C, h, ta, lo, f, σ) r n = (nI (M j), va_up M j (M j + 1), va_up C j (upd (C j) (M j) n), h, ta, lo, f, σ) := by unfold ho_cell; dsimp only; rw [if_neg (fun z => z (hr_if1 c_4)), if_neg (fun z => z hgood), ej, if_neg c28]
            have e9 : va_up M j (M j + 1) j = M j + 1 := by simp [va_up]
            rw [e9, nI_pred]
            exact hr_iret X hr hlk hS ⟨_, rfl, by rw [eK], by rw [eK]; exact hC⟩ (Nat.le_refl _) (Nat.le_refl _) dX0_cell_131
          · have c28 : M j = 12 := (nI_eq (by have := hM j hj8; omega) (by decide)).mp (show nI (M j) = nI 12 from c_95)
            refine lv_bipush (v := (-103)) X.ex X.by dX0_cell_98 (by decide) ?_
            have eK : ho_cell (M, C, h, ta, lo, f, σ) r n = (-103, (M, C, h, ta, lo, f, σ)) := by unfold ho_cell; dsimp only; rw [if_neg (fun z => z (hr_if1 c_4)), if_neg (fun z => z hgood), ej, if_pos c28]
            exact hr_iret X hr hlk hS ⟨_, rfl, by rw [eK], by rw [eK]; exact hC⟩ (Nat.le_refl _) (Nat.le_refl _) dX0_cell_100
        · refine lv_iload_n X.ex X.by dX0_cell_42 rfl (lv_at hl 2 rfl) ?_
          refine lv_sipush (v := 1000) X.ex X.by dX0_cell_43 (by decide) ?_
          refine lv_icmp_lt (tgt := 71) X.ex X.by dX0_cell_46 (by decide) (fun c_46 => ?_) (fun c_46 => ?_)
          · have hgood : ¬ hp_ok n := by
              first
                | exact hp_ok_out (hr_if0 c_18) (hr_if0 c_28) (hr_if0 c_39) (Or.inl c_46)
                | exact hp_ok_out (hr_if0 c_18) (hr_if0 c_28) (hr_if0 c_39) (Or.inr c_53)
                | exact fun z => hr_if0 c_64 ((hp_ok_rem (Int32.not_lt.mp c_46) (Int32.not_le.mp c_53)).mpr z)
            refine lv_iconst (v := 0) X.ex X.by dX0_cell_71 (by decide) ?_
            refine lv_istore_n X.ex X.by dX0_cell_72 rfl hl (by decide) rfl (fun ls hl => ?_)
            have hl : lv_has ls 5 [(3, _), (0, _), (1, _), (2, _)] := hl
            refine lv_iload_n X.ex X.by dX0_cell_73 rfl (lv_at hl 0 rfl) ?_
            refine lv_if_ne (tgt := 80) X.ex X.by dX0_cell_74 (by decide) (fun c_74 => absurd c_74 (fun z => z rfl)) (fun c_74 => ?_)
            refine lv_bipush (v := (-102)) X.ex X.by dX0_cell_77 (by decide) ?_
            have eK : ho_cell (M, C, h, ta, lo, f, σ) r n = (-102, (M, C, h, ta, lo, f, σ)) := by unfold ho_cell; rw [if_neg (fun z => z (hr_if1 c_4)), if_pos hgood]
            exact hr_iret X hr hlk hS ⟨_, rfl, by rw [eK], by rw [eK]; exact hC⟩ (Nat.le_refl _) (Nat.le_refl _) dX0_cell_79
          · refine lv_iload_n X.ex X.by dX0_cell_49 rfl (lv_at hl 2 rfl) ?_
            refine lv_sipush (v := 4000) X.ex X.by dX0_cell_50 (by decide) ?_
            refine lv_icmp_ge (tgt := 71) X.ex X.by dX0_cell_53 (by decide) (fun c_53 => ?_) (fun c_53 => ?_)
            · have hgood : ¬ hp_ok n := by
                first
                  | exact hp_ok_out (hr_if0 c_18) (hr_if0 c_28) (hr_if0 c_39) (Or.inl c_46)
                  | exact hp_ok_out (hr_if0 c_18) (hr_if0 c_28) (hr_if0 c_39) (Or.inr c_53)
                  | exact fun z => hr_if0 c_64 ((hp_ok_rem (Int32.not_lt.mp c_46) (Int32.not_le.mp c_53)).mpr z)
              refine lv_iconst (v := 0) X.ex X.by dX0_cell_71 (by decide) ?_
              refine lv_istore_n X.ex X.by dX0_cell_72 rfl hl (by decide) rfl (fun ls hl => ?_)
              have hl : lv_has ls 5 [(3, _), (0, _), (1, _), (2, _)] := hl
              refine lv_iload_n X.ex X.by dX0_cell_73 rfl (lv_at hl 0 rfl) ?_
              refine lv_if_ne (tgt := 80) X.ex X.by dX0_cell_74 (by decide) (fun c_74 => absurd c_74 (fun z => z rfl)) (fun c_74 => ?_)
              refine lv_bipush (v := (-102)) X.ex X.by dX0_cell_77 (by decide) ?_
              have eK : ho_cell (M, C, h, ta, lo, f, σ) r n = (-102, (M, C, h, ta, lo, f, σ)) := by unfold ho_cell; rw [if_neg (fun z => z (hr_if1 c_4)), if_pos hgood]
              exact hr_iret X hr hlk hS ⟨_, rfl, by rw [eK], by rw [eK]; exact hC⟩ (Nat.le_refl _) (Nat.le_refl _) dX0_cell_79
            · refine lv_iload_n X.ex X.by dX0_cell_56 rfl (lv_at hl 2 rfl) ?_
              refine lv_sipush (v := 1000) X.ex X.by dX0_cell_57 (by decide) ?_
              refine lv_irem X.ex X.by dX0_cell_60 (by decide) ?_
              refine c_X0_isRack X hS ⟨Nat.le_of_ble_eq_true rfl, Nat.le_of_ble_eq_true rfl⟩ ⟨Nat.zero_le _, Nat.zero_le _⟩ hl.1 (Nat.le_of_ble_eq_true rfl) dX0_cell_61 (fun locs hS => ?_)
              refine lv_if_eq (tgt := 71) X.ex X.by dX0_cell_64 (by decide) (fun c_64 => ?_) (fun c_64 => ?_)
              · have hgood : ¬ hp_ok n := by
                  first
                    | exact hp_ok_out (hr_if0 c_18) (hr_if0 c_28) (hr_if0 c_39) (Or.inl c_46)
                    | exact hp_ok_out (hr_if0 c_18) (hr_if0 c_28) (hr_if0 c_39) (Or.inr c_53)
                    | exact fun z => hr_if0 c_64 ((hp_ok_rem (Int32.not_lt.mp c_46) (Int32.not_le.mp c_53)).mpr z)
                refine lv_iconst (v := 0) X.ex X.by dX0_cell_71 (by decide) ?_
                refine lv_istore_n X.ex X.by dX0_cell_72 rfl hl (by decide) rfl (fun ls hl => ?_)
                have hl : lv_has ls 5 [(3, _), (0, _), (1, _), (2, _)] := hl
                refine lv_iload_n X.ex X.by dX0_cell_73 rfl (lv_at hl 0 rfl) ?_
                refine lv_if_ne (tgt := 80) X.ex X.by dX0_cell_74 (by decide) (fun c_74 => absurd c_74 (fun z => z rfl)) (fun c_74 => ?_)
                refine lv_bipush (v := (-102)) X.ex X.by dX0_cell_77 (by decide) ?_
                have eK : ho_cell (M, C, h, ta, lo, f, σ) r n = (-102, (M, C, h, ta, lo, f, σ)) := by unfold ho_cell; rw [if_neg (fun z => z (hr_if1 c_4)), if_pos hgood]
                exact hr_iret X hr hlk hS ⟨_, rfl, by rw [eK], by rw [eK]; exact hC⟩ (Nat.le_refl _) (Nat.le_refl _) dX0_cell_79
              · have hgood : hp_ok n := by
                  first
                    | exact Or.inl (hr_if1 c_18)
                    | exact Or.inr (Or.inl (hr_if1 c_28))
                    | exact Or.inr (Or.inr (Or.inl (hr_if1 c_39)))
                    | exact (hp_ok_rem (Int32.not_lt.mp c_46) (Int32.not_le.mp c_53)).mp (hr_if1 c_64)
                refine lv_iconst (v := 1) X.ex X.by dX0_cell_67 (by decide) ?_
                refine lv_goto (tgt := 72) X.ex X.by dX0_cell_68 (by decide) ?_
                refine lv_istore_n X.ex X.by dX0_cell_72 rfl hl (by decide) rfl (fun ls hl => ?_)
                have hl : lv_has ls 5 [(3, _), (0, _), (1, _), (2, _)] := hl
                refine lv_iload_n X.ex X.by dX0_cell_73 rfl (lv_at hl 0 rfl) ?_
                refine lv_if_ne (tgt := 80) X.ex X.by dX0_cell_74 (by decide) (fun c_74 => ?_) (fun c_74 => absurd c_74 (by decide))
                refine lv_aload_n X.ex X.by dX0_cell_80 rfl (lv_at hl 1 rfl) ?_
                refine hr_cget X hC 0 (by decide) rfl q67 dX0_cell_81 ?_
                refine lv_iload_n X.ex X.by dX0_cell_84 rfl (lv_at hl 2 rfl) ?_
                refine hr_crk X hC ei hj8 dX0_cell_85 ?_
                refine lv_astore X.ex X.by dX0_cell_86 hl (by decide) rfl (fun ls hl => ?_)
                have hl : lv_has ls 5 [(4, _), (3, _), (0, _), (1, _), (2, _)] := hl
                refine lv_aload X.ex X.by dX0_cell_88 (lv_at hl 0 rfl) ?_
                refine hr_cmany X hC hj8 q60 dX0_cell_90 ?_
                refine lv_bipush (v := 12) X.ex X.by dX0_cell_93 (by decide) ?_
                refine lv_icmp_ne (tgt := 101) X.ex X.by dX0_cell_95 (by decide) (fun c_95 => ?_) (fun c_95 => ?_)
                · have c28 : ¬ M j = 12 := fun z => c_95 (by rw [z]; rfl)
                  refine lv_aload X.ex X.by dX0_cell_101 (lv_at hl 0 rfl) ?_
                  refine hr_ccells X hC hj8 q59 dX0_cell_103 ?_
                  refine lv_aload X.ex X.by dX0_cell_106 (lv_at hl 0 rfl) ?_
                  refine hr_cmany X hC hj8 q60 dX0_cell_108 ?_
                  refine lv_iload_n X.ex X.by dX0_cell_111 rfl (lv_at hl 4 rfl) ?_
                  refine hr_ccst X hC hS hreg hj8 rfl (by have := hM j hj8; omega) dX0_cell_112 (fun H locs hC hS _ => ?_)
                  refine lv_aload X.ex X.by dX0_cell_113 (lv_at hl 0 rfl) ?_
                  refine lv_dup X.ex X.by dX0_cell_115 rfl ?_
                  refine hr_cmany X hC hj8 q60 dX0_cell_116 ?_
                  refine lv_iconst (v := 1) X.ex X.by dX0_cell_119 (by decide) ?_
                  refine lv_iadd X.ex X.by dX0_cell_120 ?_
                  refine hr_cmput X hC hS hreg hj8 (M j + 1) (nI_1 _) q60 dX0_cell_121 (fun H locs hC hS _ => ?_)
                  refine lv_aload X.ex X.by dX0_cell_124 (lv_at hl 0 rfl) ?_
                  refine hr_cmany X hC hj8 q60 dX0_cell_126 ?_
                  refine lv_iconst (v := 1) X.ex X.by dX0_cell_129 (by decide) ?_
                  refine lv_isub X.ex X.by dX0_cell_130 ?_
                  have eK : ho_cell (M, C, h, ta, lo, f, σ) r n = (nI (M j), va_up M j (M j + 1), va_up C j (upd (C j) (M j) n), h, ta, lo, f, σ) := by unfold ho_cell; dsimp only; rw [if_neg (fun z => z (hr_if1 c_4)), if_neg (fun z => z hgood), ej, if_neg c28]
                  have e9 : va_up M j (M j + 1) j = M j + 1 := by simp [va_up]
                  rw [e9, nI_pred]
                  exact hr_iret X hr hlk hS ⟨_, rfl, by rw [eK], by rw [eK]; exact hC⟩ (Nat.le_refl _) (Nat.le_refl _) dX0_cell_131
                · have c28 : M j = 12 := (nI_eq (by have := hM j hj8; omega) (by decide)).mp (show nI (M j) = nI 12 from c_95)
                  refine lv_bipush (v := (-103)) X.ex X.by dX0_cell_98 (by decide) ?_
                  have eK : ho_cell (M, C, h, ta, lo, f, σ) r n = (-103, (M, C, h, ta, lo, f, σ)) := by unfold ho_cell; dsimp only; rw [if_neg (fun z => z (hr_if1 c_4)), if_neg (fun z => z hgood), ej, if_pos c28]
                  exact hr_iret X hr hlk hS ⟨_, rfl, by rw [eK], by rw [eK]; exact hC⟩ (Nat.le_refl _) (Nat.le_refl _) dX0_cell_100
  · refine lv_bipush (v := (-101)) X.ex X.by dX0_cell_7 (by decide) ?_
    have eK : ho_cell (M, C, h, ta, lo, f, σ) r n = (-101, (M, C, h, ta, lo, f, σ)) := if_pos (hr_if0 c_4)
    exact hr_iret X hr hlk hS ⟨_, rfl, by rw [eK], by rw [eK]; exact hC⟩ (Nat.le_refl _) (Nat.le_refl _) dX0_cell_9
set_option maxHeartbeats 4000000 in
theorem k_X0_clear (l : Launch) {s0 : State} {D : va_G} {g : ClassId × ClassId × ClassId} (Z : hr_Z s0 D g) {b z : Nat} (h0 : s0.heap.size ≤ b) {K : hp_K} (hV : hp_KV K) (r : Int32) {sz : Nat} : hr_C l yX0_clear (ws_ yX0_clear cX0_clear 3 (some .int)) (hr_L 2 0 0) s0 b 20 sz [.ref b, .int r] (fun H => hr_cK D g b z K H) (hr_Qi (fun v H => v = (ho_clear K r).1 ∧ hr_cK D g b z (ho_clear K r).2 H)) 0 0 := by
  refine hr_meth (by decide) (Nat.le_of_ble_eq_true rfl) Z h0 ?_
  intro p e s m0 below meth c ls X hr hlk hnm htab hadm hsz hC hl
  have hl : lv_has ls 3 [(0, _), (1, _)] := hl
  have hreg := hr_reg (lo := b) (n := 20) (sz := s.heap.size)
  have hS := hr_S0 (s := s) (lo := b) (n := 20)
  obtain ⟨M, C, h, ta, lo, f, σ⟩ := K
  obtain ⟨hM, hok, hn⟩ := hV
  have hM : ∀ r, r < 8 → M r ≤ 12 := hM
  have hok : ∀ r k, r < 8 → k < M r → hp_ok (C r k) := hok
  have hn : hp_n σ ≤ 2800 := hn
  have hC : hr_cw D g b z (hr_cf b ta lo σ.1 (nI σ.2.1) 0 (nI σ.2.2.1) 0 0 0 (nI σ.2.2.2.2.length) f.1 f.2.1 f.2.2.1 f.2.2.2) M C h σ.2.2.2.2 s.heap := hC
  refine lv_iload_n X.ex X.by dX0_clear_0 rfl (lv_at hl 1 rfl) ?_
  refine c_X0_isRack X hS ⟨Nat.le_of_ble_eq_true rfl, Nat.le_of_ble_eq_true rfl⟩ ⟨Nat.zero_le _, Nat.zero_le _⟩ hl.1 (Nat.le_of_ble_eq_true rfl) dX0_clear_1 (fun locs hS => ?_)
  refine lv_if_ne (tgt := 10) X.ex X.by dX0_clear_4 (by decide) (fun c_4 => ?_) (fun c_4 => ?_)
  · obtain ⟨j, ej, hj8, ei⟩ : ∃ j, r.toNatClampNeg = j ∧ j < 8 ∧ r = nI j := ⟨_, rfl, (hp_rk_lt (hr_if1 c_4)).1, (hp_rk_lt (hr_if1 c_4)).2⟩
    refine lv_aload_n X.ex X.by dX0_clear_10 rfl (lv_at hl 0 rfl) ?_
    refine hr_cget X hC 0 (by decide) rfl q67 dX0_clear_11 ?_
    refine lv_iload_n X.ex X.by dX0_clear_14 rfl (lv_at hl 1 rfl) ?_
    refine hr_crk X hC ei hj8 dX0_clear_15 ?_
    refine hr_cmany X hC hj8 q60 dX0_clear_16 ?_
    refine lv_istore_n X.ex X.by dX0_clear_19 rfl hl (by decide) rfl (fun ls hl => ?_)
    have hl : lv_has ls 3 [(2, _), (0, _), (1, _)] := hl
    refine lv_aload_n X.ex X.by dX0_clear_20 rfl (lv_at hl 1 rfl) ?_
    refine hr_cget X hC 0 (by decide) rfl q67 dX0_clear_21 ?_
    refine lv_iload_n X.ex X.by dX0_clear_24 rfl (lv_at hl 2 rfl) ?_
    refine hr_crk X hC ei hj8 dX0_clear_25 ?_
    refine lv_iconst (v := 0) X.ex X.by dX0_clear_26 (by decide) ?_
    refine hr_cmput X hC hS hreg hj8 0 rfl q60 dX0_clear_27 (fun H locs hC hS _ => ?_)
    refine lv_iload_n X.ex X.by dX0_clear_30 rfl (lv_at hl 0 rfl) ?_
    have eK : ho_clear (M, C, h, ta, lo, f, σ) r = (nI (M j), va_up M j 0, C, h, ta, lo, f, σ) := by unfold ho_clear; dsimp only; rw [if_neg (fun z => z (hr_if1 c_4)), ej]
    exact hr_iret X hr hlk hS ⟨_, rfl, by rw [eK], by rw [eK]; exact hC⟩ (Nat.le_refl _) (Nat.le_refl _) dX0_clear_31
  · refine lv_bipush (v := (-101)) X.ex X.by dX0_clear_7 (by decide) ?_
    have eK : ho_clear (M, C, h, ta, lo, f, σ) r = (-101, (M, C, h, ta, lo, f, σ)) := if_pos (hr_if0 c_4)
    exact hr_iret X hr hlk hS ⟨_, rfl, by rw [eK], by rw [eK]; exact hC⟩ (Nat.le_refl _) (Nat.le_refl _) dX0_clear_9
set_option maxHeartbeats 4000000 in
theorem k_X0_tare (l : Launch) {s0 : State} {D : va_G} {g : ClassId × ClassId × ClassId} (Z : hr_Z s0 D g) {b z : Nat} (h0 : s0.heap.size ≤ b) {K : hp_K} (hV : hp_KV K) (t : Int32) {sz : Nat} : hr_C l yX0_tare (ws_ yX0_tare cX0_tare 3 (some .int)) (hr_L 1 0 0) s0 b 20 sz [.ref b, .int t] (fun H => hr_cK D g b z K H) (hr_Qi (fun v H => v = (ho_tare K t).1 ∧ hr_cK D g b z (ho_tare K t).2 H)) 0 0 := by
  refine hr_meth (by decide) (Nat.le_of_ble_eq_true rfl) Z h0 ?_
  intro p e s m0 below meth c ls X hr hlk hnm htab hadm hsz hC hl
  have hl : lv_has ls 3 [(0, _), (1, _)] := hl
  have hreg := hr_reg (lo := b) (n := 20) (sz := s.heap.size)
  have hS := hr_S0 (s := s) (lo := b) (n := 20)
  obtain ⟨M, C, h, ta, lo, f, σ⟩ := K
  obtain ⟨hM, hok, hn⟩ := hV
  have hM : ∀ r, r < 8 → M r ≤ 12 := hM
  have hok : ∀ r k, r < 8 → k < M r → hp_ok (C r k) := hok
  have hn : hp_n σ ≤ 2800 := hn
  have hC : hr_cw D g b z (hr_cf b ta lo σ.1 (nI σ.2.1) 0 (nI σ.2.2.1) 0 0 0 (nI σ.2.2.2.2.length) f.1 f.2.1 f.2.2.1 f.2.2.2) M C h σ.2.2.2.2 s.heap := hC
  refine lv_iload_n X.ex X.by dX0_tare_0 rfl (lv_at hl 1 rfl) ?_
  refine lv_iconst (v := 0) X.ex X.by dX0_tare_1 (by decide) ?_
  refine lv_sipush (v := 999) X.ex X.by dX0_tare_2 (by decide) ?_
  refine c_X0_in X hS ⟨Nat.le_of_ble_eq_true rfl, Nat.le_of_ble_eq_true rfl⟩ ⟨Nat.zero_le _, Nat.zero_le _⟩ hl.1 (Nat.le_of_ble_eq_true rfl) dX0_tare_5 (fun locs hS => ?_)
  refine lv_if_ne (tgt := 14) X.ex X.by dX0_tare_8 (by decide) (fun c_8 => ?_) (fun c_8 => ?_)
  · refine lv_aload_n X.ex X.by dX0_tare_14 rfl (lv_at hl 0 rfl) ?_
    refine hr_cget X hC 2 (by decide) rfl q69 dX0_tare_15 ?_
    refine lv_istore_n X.ex X.by dX0_tare_18 rfl hl (by decide) rfl (fun ls hl => ?_)
    have hl : lv_has ls 3 [(2, _), (0, _), (1, _)] := hl
    refine lv_aload_n X.ex X.by dX0_tare_19 rfl (lv_at hl 1 rfl) ?_
    refine lv_iload_n X.ex X.by dX0_tare_20 rfl (lv_at hl 2 rfl) ?_
    refine hr_cput X hC hS hreg 2 (by decide) (Nat.le_of_ble_eq_true rfl) rfl rfl q69 dX0_tare_21 (fun H locs hC hS _ => ?_)
    refine lv_iload_n X.ex X.by dX0_tare_24 rfl (lv_at hl 0 rfl) ?_
    have eK : ho_tare (M, C, h, ta, lo, f, σ) t = (ta, M, C, h, t, lo, f, σ) := by unfold ho_tare; dsimp only; rw [if_neg (fun z => z (hr_if1 c_8))]
    exact hr_iret X hr hlk hS ⟨_, rfl, by rw [eK], by rw [eK]; exact hC⟩ (Nat.le_refl _) (Nat.le_refl _) dX0_tare_25
  · refine lv_bipush (v := (-102)) X.ex X.by dX0_tare_11 (by decide) ?_
    have eK : ho_tare (M, C, h, ta, lo, f, σ) t = (-102, (M, C, h, ta, lo, f, σ)) := if_pos (hr_if0 c_8)
    exact hr_iret X hr hlk hS ⟨_, rfl, by rw [eK], by rw [eK]; exact hC⟩ (Nat.le_refl _) (Nat.le_refl _) dX0_tare_13
theorem hr_cw.keptN {D : va_G} {g : ClassId × ClassId × ClassId} {b z : Nat} {fs : List Value} {M : Nat → Nat} {C : Nat → Nat → Int32} {h : Nat → Int32} {js : List Int32} {H H1 : Heap} (hC : hr_cw D g b z fs M C h js H) (hk : ∀ q : Nat, q < H.size → H1[q]? = H[q]?) : hr_cw D g b z fs M C h js H1 := hC.kept (fun q hq _ => hk q hq)
set_option maxHeartbeats 4000000 in
theorem k_X0_crew (l : Launch) {s0 : State} {D : va_G} {g : ClassId × ClassId × ClassId} (Z : hr_Z s0 D g) {b z : Nat} (h0 : s0.heap.size ≤ b) {K : hp_K} (hV : hp_KV K) (k : Int32) (n : Int32) {sz : Nat} (hzz : z ≤ sz) : hr_C l yX0_crew (ws_ yX0_crew cX0_crew 4 (some .int)) (hr_L 2 1 1) s0 b 20 sz [.ref b, .int k, .int n] (fun H => hr_cK D g b z K H) (hr_Qi (fun v H => v = (ho_crew K k n).1 ∧ hr_cK D g b z (ho_crew K k n).2 H)) 1 1 := by
  refine hr_meth (by decide) (Nat.le_of_ble_eq_true rfl) Z h0 ?_
  intro p e s m0 below meth c ls X hr hlk hnm htab hadm hsz hC hl
  have hl : lv_has ls 4 [(0, _), (1, _), (2, _)] := hl
  have hreg := hr_reg (lo := b) (n := 20) (sz := s.heap.size)
  have hS := hr_S0 (s := s) (lo := b) (n := 20)
  obtain ⟨M, C, h, ta, lo, f, σ⟩ := K
  obtain ⟨hM, hok, hn⟩ := hV
  have hM : ∀ r, r < 8 → M r ≤ 12 := hM
  have hok : ∀ r k, r < 8 → k < M r → hp_ok (C r k) := hok
  have hn : hp_n σ ≤ 2800 := hn
  have hC : hr_cw D g b z (hr_cf b ta lo σ.1 (nI σ.2.1) 0 (nI σ.2.2.1) 0 0 0 (nI σ.2.2.2.2.length) f.1 f.2.1 f.2.2.1 f.2.2.2) M C h σ.2.2.2.2 s.heap := hC
  refine lv_iload_n X.ex X.by dX0_crew_0 rfl (lv_at hl 1 rfl) ?_
  refine lv_iconst (v := 0) X.ex X.by dX0_crew_1 (by decide) ?_
  refine lv_iconst (v := 3) X.ex X.by dX0_crew_2 (by decide) ?_
  refine c_X0_in X hS ⟨Nat.le_of_ble_eq_true rfl, Nat.le_of_ble_eq_true rfl⟩ ⟨Nat.zero_le _, Nat.zero_le _⟩ hl.1 (Nat.le_of_ble_eq_true rfl) dX0_crew_3 (fun locs hS => ?_)
  refine lv_if_ne (tgt := 12) X.ex X.by dX0_crew_6 (by decide) (fun c_6 => ?_) (fun c_6 => ?_)
  · obtain ⟨j, ej, hj4, ei⟩ : ∃ j, k.toNatClampNeg = j ∧ j < 4 ∧ k = nI j := ⟨_, rfl, hp_in_lt (n := 3) (by decide) (hr_if1 c_6).1 (hr_if1 c_6).2⟩
    refine lv_iload_n X.ex X.by dX0_crew_12 rfl (lv_at hl 2 rfl) ?_
    refine lv_iconst (v := 0) X.ex X.by dX0_crew_13 (by decide) ?_
    refine lv_bipush (v := 50) X.ex X.by dX0_crew_14 (by decide) ?_
    refine c_X0_in X hS ⟨Nat.le_of_ble_eq_true rfl, Nat.le_of_ble_eq_true rfl⟩ ⟨Nat.zero_le _, Nat.zero_le _⟩ hl.1 (Nat.le_of_ble_eq_true rfl) dX0_crew_16 (fun locs hS => ?_)
    refine lv_if_ne (tgt := 25) X.ex X.by dX0_crew_19 (by decide) (fun c_19 => ?_) (fun c_19 => ?_)
    · refine lv_aload_n X.ex X.by dX0_crew_25 rfl (lv_at hl 0 rfl) ?_
      refine hr_cget X hC 1 (by decide) rfl q68 dX0_crew_26 ?_
      refine lv_iload_n X.ex X.by dX0_crew_29 rfl (lv_at hl 1 rfl) ?_
      refine hr_ccrew X hC ei hj4 dX0_crew_30 (fun hj0 => ?_) (fun a9 hj0 hO9 => ?_)
      · refine lv_ifnonnullN X.ex X.by dX0_crew_31 ?_
        refine lv_iconst (v := 0) X.ex X.by dX0_crew_34 (by decide) ?_
        refine lv_goto (tgt := 47) X.ex X.by dX0_crew_35 (by decide) ?_
        have hj9 : (0 : Int32) = h j := hj0.symm
        rw [hj9]
        refine lv_istore_n X.ex X.by dX0_crew_47 rfl hl (by decide) rfl (fun ls hl => ?_)
        have hl : lv_has ls 4 [(3, _), (0, _), (1, _), (2, _)] := hl
        refine lv_aload_n X.ex X.by dX0_crew_48 rfl (lv_at hl 1 rfl) ?_
        refine hr_cget X hC 1 (by decide) rfl q68 dX0_crew_49 ?_
        refine lv_iload_n X.ex X.by dX0_crew_52 rfl (lv_at hl 2 rfl) ?_
        refine lv_iload_n X.ex X.by dX0_crew_53 rfl (lv_at hl 3 rfl) ?_
        by_cases n0 : n = 0
        · refine lv_if_ne (tgt := 61) X.ex X.by dX0_crew_54 (by decide) (fun c_54 => absurd n0 c_54) (fun c_54 => ?_)
          refine lv_null X.ex X.by dX0_crew_57 ?_
          refine lv_goto (tgt := 69) X.ex X.by dX0_crew_58 (by decide) ?_
          refine hr_ccrN X hC hS hreg ei hj4 dX0_crew_69 (fun H locs hC hS _ => ?_)
          have en0 : upd h j 0 = upd h j n := by rw [n0]
          rw [en0] at hC
          refine lv_iload_n X.ex X.by dX0_crew_70 rfl (lv_at hl 0 rfl) ?_
          have eK : ho_crew (M, C, h, ta, lo, f, σ) k n = (h j, M, C, upd h j n, ta, lo, f, σ) := by unfold ho_crew; dsimp only; rw [if_neg (fun z => z (hr_if1 c_6)), if_neg (fun z => z (hr_if1 c_19)), ej]
          exact hr_iret X hr hlk hS ⟨_, rfl, by rw [eK], by rw [eK]; exact hC⟩ (by first | exact Nat.le_refl _ | exact Nat.zero_le _) (by first | exact Nat.le_refl _ | exact Nat.zero_le _) dX0_crew_71
        · refine lv_if_ne (tgt := 61) X.ex X.by dX0_crew_54 (by decide) (fun c_54 => ?_) (fun c_54 => absurd c_54 n0)
          refine hr_newA X hr_i2 hS rfl q51 q141 q29 (fs := [.int 0]) (fun j hj => by rcases (show j = 0 by omega) with rfl; rfl) (Nat.le_of_ble_eq_true rfl) (Nat.le_of_ble_eq_true rfl) dX0_crew_61 (fun H9 hN zN oN hS => ?_)
          have hC0 := hC
          have hS0 := hS
          refine lv_dup X.ex X.by dX0_crew_64 rfl ?_
          refine lv_iload_n X.ex X.by dX0_crew_65 rfl (lv_at hl 3 rfl) ?_
          refine hr_callIv (As := [.int n]) (n := 1) X (k_X3_init l X.2.1 (by have := X.size; have := hS.1; omega) n) v_X3_init (lw_meth q144) hS (fun q hq1 hq2 => Or.inr (by have := hS.1; omega)) hN rfl rfl (hr_lR (by decide) ⟨Nat.le_of_ble_eq_true rfl, Nat.le_of_ble_eq_true rfl⟩) hl.1 rfl (Nat.le_of_ble_eq_true rfl) ⟨Nat.le_of_ble_eq_true rfl, Nat.le_of_ble_eq_true rfl⟩ dX0_crew_66 (fun H locs hN hS hk => ?_)
          have hC := hr_cw.keptN hC0 (H1 := H) (fun q hq => (hk.2 q (by omega) (by omega)).trans (oN q hq))
          refine hr_ccrR X hC hS hreg hN n0 (by have := hS0.1; omega) ei hj4 dX0_crew_69 (fun H locs hC hS _ => ?_)
          refine lv_iload_n X.ex X.by dX0_crew_70 rfl (lv_at hl 0 rfl) ?_
          have eK : ho_crew (M, C, h, ta, lo, f, σ) k n = (h j, M, C, upd h j n, ta, lo, f, σ) := by unfold ho_crew; dsimp only; rw [if_neg (fun z => z (hr_if1 c_6)), if_neg (fun z => z (hr_if1 c_19)), ej]
          exact hr_iret X hr hlk hS ⟨_, rfl, by rw [eK], by rw [eK]; exact hC⟩ (by first | exact Nat.le_refl _ | exact Nat.zero_le _) (by first | exact Nat.le_refl _ | exact Nat.zero_le _) dX0_crew_71
      · refine lv_ifnonnull (tgt := 38) X.ex X.by dX0_crew_31 (by decide) ?_
        refine lv_aload_n X.ex X.by dX0_crew_38 rfl (lv_at hl 0 rfl) ?_
        refine hr_cget X hC 1 (by decide) rfl q68 dX0_crew_39 ?_
        refine lv_iload_n X.ex X.by dX0_crew_42 rfl (lv_at hl 1 rfl) ?_
        refine hr_ccrew X hC ei hj4 dX0_crew_43 (fun hj1 => absurd hj1 hj0) (fun a8 _ hO8 => ?_)
        refine hr_hands X hO8 q147 dX0_crew_44 ?_
        refine lv_istore_n X.ex X.by dX0_crew_47 rfl hl (by decide) rfl (fun ls hl => ?_)
        have hl : lv_has ls 4 [(3, _), (0, _), (1, _), (2, _)] := hl
        refine lv_aload_n X.ex X.by dX0_crew_48 rfl (lv_at hl 1 rfl) ?_
        refine hr_cget X hC 1 (by decide) rfl q68 dX0_crew_49 ?_
        refine lv_iload_n X.ex X.by dX0_crew_52 rfl (lv_at hl 2 rfl) ?_
        refine lv_iload_n X.ex X.by dX0_crew_53 rfl (lv_at hl 3 rfl) ?_
        by_cases n0 : n = 0
        · refine lv_if_ne (tgt := 61) X.ex X.by dX0_crew_54 (by decide) (fun c_54 => absurd n0 c_54) (fun c_54 => ?_)
          refine lv_null X.ex X.by dX0_crew_57 ?_
          refine lv_goto (tgt := 69) X.ex X.by dX0_crew_58 (by decide) ?_
          refine hr_ccrN X hC hS hreg ei hj4 dX0_crew_69 (fun H locs hC hS _ => ?_)
          have en0 : upd h j 0 = upd h j n := by rw [n0]
          rw [en0] at hC
          refine lv_iload_n X.ex X.by dX0_crew_70 rfl (lv_at hl 0 rfl) ?_
          have eK : ho_crew (M, C, h, ta, lo, f, σ) k n = (h j, M, C, upd h j n, ta, lo, f, σ) := by unfold ho_crew; dsimp only; rw [if_neg (fun z => z (hr_if1 c_6)), if_neg (fun z => z (hr_if1 c_19)), ej]
          exact hr_iret X hr hlk hS ⟨_, rfl, by rw [eK], by rw [eK]; exact hC⟩ (by first | exact Nat.le_refl _ | exact Nat.zero_le _) (by first | exact Nat.le_refl _ | exact Nat.zero_le _) dX0_crew_71
        · refine lv_if_ne (tgt := 61) X.ex X.by dX0_crew_54 (by decide) (fun c_54 => ?_) (fun c_54 => absurd c_54 n0)
          refine hr_newA X hr_i2 hS rfl q51 q141 q29 (fs := [.int 0]) (fun j hj => by rcases (show j = 0 by omega) with rfl; rfl) (Nat.le_of_ble_eq_true rfl) (Nat.le_of_ble_eq_true rfl) dX0_crew_61 (fun H9 hN zN oN hS => ?_)
          have hC0 := hC
          have hS0 := hS
          refine lv_dup X.ex X.by dX0_crew_64 rfl ?_
          refine lv_iload_n X.ex X.by dX0_crew_65 rfl (lv_at hl 3 rfl) ?_
          refine hr_callIv (As := [.int n]) (n := 1) X (k_X3_init l X.2.1 (by have := X.size; have := hS.1; omega) n) v_X3_init (lw_meth q144) hS (fun q hq1 hq2 => Or.inr (by have := hS.1; omega)) hN rfl rfl (hr_lR (by decide) ⟨Nat.le_of_ble_eq_true rfl, Nat.le_of_ble_eq_true rfl⟩) hl.1 rfl (Nat.le_of_ble_eq_true rfl) ⟨Nat.le_of_ble_eq_true rfl, Nat.le_of_ble_eq_true rfl⟩ dX0_crew_66 (fun H locs hN hS hk => ?_)
          have hC := hr_cw.keptN hC0 (H1 := H) (fun q hq => (hk.2 q (by omega) (by omega)).trans (oN q hq))
          refine hr_ccrR X hC hS hreg hN n0 (by have := hS0.1; omega) ei hj4 dX0_crew_69 (fun H locs hC hS _ => ?_)
          refine lv_iload_n X.ex X.by dX0_crew_70 rfl (lv_at hl 0 rfl) ?_
          have eK : ho_crew (M, C, h, ta, lo, f, σ) k n = (h j, M, C, upd h j n, ta, lo, f, σ) := by unfold ho_crew; dsimp only; rw [if_neg (fun z => z (hr_if1 c_6)), if_neg (fun z => z (hr_if1 c_19)), ej]
          exact hr_iret X hr hlk hS ⟨_, rfl, by rw [eK], by rw [eK]; exact hC⟩ (by first | exact Nat.le_refl _ | exact Nat.zero_le _) (by first | exact Nat.le_refl _ | exact Nat.zero_le _) dX0_crew_71
    · refine lv_bipush (v := (-102)) X.ex X.by dX0_crew_22 (by decide) ?_
      have eK : ho_crew (M, C, h, ta, lo, f, σ) k n = (-102, (M, C, h, ta, lo, f, σ)) := by unfold ho_crew; dsimp only; rw [if_neg (fun z => z (hr_if1 c_6)), if_pos (hr_if0 c_19)]
      exact hr_iret X hr hlk hS ⟨_, rfl, by rw [eK], by rw [eK]; exact hC⟩ (by first | exact Nat.le_refl _ | exact Nat.zero_le _) (by first | exact Nat.le_refl _ | exact Nat.zero_le _) dX0_crew_24
  · refine lv_bipush (v := (-101)) X.ex X.by dX0_crew_9 (by decide) ?_
    have eK : ho_crew (M, C, h, ta, lo, f, σ) k n = (-101, (M, C, h, ta, lo, f, σ)) := if_pos (hr_if0 c_6)
    exact hr_iret X hr hlk hS ⟨_, rfl, by rw [eK], by rw [eK]; exact hC⟩ (by first | exact Nat.le_refl _ | exact Nat.zero_le _) (by first | exact Nat.le_refl _ | exact Nat.zero_le _) dX0_crew_11
set_option maxHeartbeats 4000000 in
theorem k_X0_told (l : Launch) {s0 : State} {D : va_G} {g : ClassId × ClassId × ClassId} (Z : hr_Z s0 D g) {b z : Nat} (h0 : s0.heap.size ≤ b) {K : hp_K} (hV : hp_KV K) (w : Int32) {sz : Nat} : hr_C l yX0_told (ws_ yX0_told cX0_told 2 (some .int)) (hr_L 0 0 0) s0 b 20 sz [.ref b, .int w] (fun H => hr_cK D g b z K H) (hr_Qi (fun v H => v = ho_told K w ∧ hr_cK D g b z K H)) 0 0 := by
  refine hr_meth (by decide) (Nat.le_of_ble_eq_true rfl) Z h0 ?_
  intro p e s m0 below meth c ls X hr hlk hnm htab hadm hsz hC hl
  have hl : lv_has ls 2 [(0, _), (1, _)] := hl
  have hreg := hr_reg (lo := b) (n := 20) (sz := s.heap.size)
  have hS := hr_S0 (s := s) (lo := b) (n := 20)
  obtain ⟨M, C, h, ta, lo, f, σ⟩ := K
  obtain ⟨hM, hok, hn⟩ := hV
  have hM : ∀ r, r < 8 → M r ≤ 12 := hM
  have hok : ∀ r k, r < 8 → k < M r → hp_ok (C r k) := hok
  have hn : hp_n σ ≤ 2800 := hn
  have hC : hr_cw D g b z (hr_cf b ta lo σ.1 (nI σ.2.1) 0 (nI σ.2.2.1) 0 0 0 (nI σ.2.2.2.2.length) f.1 f.2.1 f.2.2.1 f.2.2.2) M C h σ.2.2.2.2 s.heap := hC
  refine lv_iload_n X.ex X.by dX0_told_0 rfl (lv_at hl 1 rfl) ?_
  by_cases w0 : w = 0
  · subst w0
    refine lv_tableIn (off := 47) (tgt := 48) X.ex X.by dX0_told_1 (by decide) (by decide) (by decide) (by decide) ?_
    refine lv_aload_n X.ex X.by dX0_told_48 rfl (lv_at hl 0 rfl) ?_
    refine hr_cget X hC 4 (by decide) rfl q71 dX0_told_49 ?_
    exact hr_iret X hr hlk hS ⟨_, rfl, by unfold ho_told; rfl, hC⟩ (Nat.le_refl _) (Nat.le_refl _) dX0_told_52
  by_cases w1 : w = 1
  · subst w1
    refine lv_tableIn (off := 52) (tgt := 53) X.ex X.by dX0_told_1 (by decide) (by decide) (by decide) (by decide) ?_
    refine lv_aload_n X.ex X.by dX0_told_53 rfl (lv_at hl 0 rfl) ?_
    refine hr_cget X hC 13 (by decide) rfl q80 dX0_told_54 ?_
    exact hr_iret X hr hlk hS ⟨_, rfl, by unfold ho_told; rfl, hC⟩ (Nat.le_refl _) (Nat.le_refl _) dX0_told_57
  by_cases w2 : w = 2
  · subst w2
    refine lv_tableIn (off := 57) (tgt := 58) X.ex X.by dX0_told_1 (by decide) (by decide) (by decide) (by decide) ?_
    refine lv_aload_n X.ex X.by dX0_told_58 rfl (lv_at hl 0 rfl) ?_
    refine hr_cget X hC 14 (by decide) rfl q81 dX0_told_59 ?_
    exact hr_iret X hr hlk hS ⟨_, rfl, by unfold ho_told; rfl, hC⟩ (Nat.le_refl _) (Nat.le_refl _) dX0_told_62
  by_cases w3 : w = 3
  · subst w3
    refine lv_tableIn (off := 62) (tgt := 63) X.ex X.by dX0_told_1 (by decide) (by decide) (by decide) (by decide) ?_
    refine lv_aload_n X.ex X.by dX0_told_63 rfl (lv_at hl 0 rfl) ?_
    refine hr_cget X hC 15 (by decide) rfl q82 dX0_told_64 ?_
    exact hr_iret X hr hlk hS ⟨_, rfl, by unfold ho_told; rfl, hC⟩ (Nat.le_refl _) (Nat.le_refl _) dX0_told_67
  by_cases w4 : w = 4
  · subst w4
    refine lv_tableIn (off := 67) (tgt := 68) X.ex X.by dX0_told_1 (by decide) (by decide) (by decide) (by decide) ?_
    refine lv_aload_n X.ex X.by dX0_told_68 rfl (lv_at hl 0 rfl) ?_
    refine hr_cget X hC 16 (by decide) rfl q83 dX0_told_69 ?_
    exact hr_iret X hr hlk hS ⟨_, rfl, by unfold ho_told; rfl, hC⟩ (Nat.le_refl _) (Nat.le_refl _) dX0_told_72
  by_cases w5 : w = 5
  · subst w5
    refine lv_tableIn (off := 72) (tgt := 73) X.ex X.by dX0_told_1 (by decide) (by decide) (by decide) (by decide) ?_
    refine lv_aload_n X.ex X.by dX0_told_73 rfl (lv_at hl 0 rfl) ?_
    refine hr_cget X hC 5 (by decide) rfl q72 dX0_told_74 ?_
    exact hr_iret X hr hlk hS ⟨_, rfl, by unfold ho_told; rfl, hC⟩ (Nat.le_refl _) (Nat.le_refl _) dX0_told_77
  by_cases w6 : w = 6
  · subst w6
    refine lv_tableIn (off := 77) (tgt := 78) X.ex X.by dX0_told_1 (by decide) (by decide) (by decide) (by decide) ?_
    refine lv_aload_n X.ex X.by dX0_told_78 rfl (lv_at hl 0 rfl) ?_
    refine hr_cget X hC 7 (by decide) rfl q74 dX0_told_79 ?_
    exact hr_iret X hr hlk hS ⟨_, rfl, by unfold ho_told; rfl, hC⟩ (Nat.le_refl _) (Nat.le_refl _) dX0_told_82
  by_cases w7 : w = 7
  · subst w7
    refine lv_tableIn (off := 82) (tgt := 83) X.ex X.by dX0_told_1 (by decide) (by decide) (by decide) (by decide) ?_
    refine lv_aload_n X.ex X.by dX0_told_83 rfl (lv_at hl 0 rfl) ?_
    refine hr_cget X hC 11 (by decide) rfl q78 dX0_told_84 ?_
    exact hr_iret X hr hlk hS ⟨_, rfl, by unfold ho_told; rfl, hC⟩ (Nat.le_refl _) (Nat.le_refl _) dX0_told_87
  refine lv_tableOut (tgt := 88) X.ex X.by dX0_told_1 (hp_tab8 w0 w1 w2 w3 w4 w5 w6 w7) (by decide) ?_
  refine lv_bipush (v := (-101)) X.ex X.by dX0_told_88 (by decide) ?_
  exact hr_iret X hr hlk hS ⟨_, rfl, by unfold ho_told; rw [if_neg w0, if_neg w1, if_neg w2, if_neg w3, if_neg w4, if_neg w5, if_neg w6, if_neg w7], hC⟩ (Nat.le_refl _) (Nat.le_refl _) dX0_told_90
set_option maxHeartbeats 4000000 in
theorem k_X0_note (l : Launch) {s0 : State} {D : va_G} {g : ClassId × ClassId × ClassId} (Z : hr_Z s0 D g) {b z : Nat} (h0 : s0.heap.size ≤ b) {K : hp_K} (hV : hp_KV K) (i : Int32) {sz : Nat} : hr_C l yX0_note (ws_ yX0_note cX0_note 2 (some .int)) (hr_L 1 0 0) s0 b 20 sz [.ref b, .int i] (fun H => hr_cK D g b z K H) (hr_Qi (fun v H => v = ho_note K i ∧ hr_cK D g b z K H)) 0 0 := by
  refine hr_meth (by decide) (Nat.le_of_ble_eq_true rfl) Z h0 ?_
  intro p e s m0 below meth c ls X hr hlk hnm htab hadm hsz hC hl
  have hl : lv_has ls 2 [(0, _), (1, _)] := hl
  have hreg := hr_reg (lo := b) (n := 20) (sz := s.heap.size)
  have hS := hr_S0 (s := s) (lo := b) (n := 20)
  obtain ⟨M, C, h, ta, lo, f, σ⟩ := K
  obtain ⟨hM, hok, hn⟩ := hV
  have hM : ∀ r, r < 8 → M r ≤ 12 := hM
  have hok : ∀ r k, r < 8 → k < M r → hp_ok (C r k) := hok
  have hn : hp_n σ ≤ 2800 := hn
  have hC : hr_cw D g b z (hr_cf b ta lo σ.1 (nI σ.2.1) 0 (nI σ.2.2.1) 0 0 0 (nI σ.2.2.2.2.length) f.1 f.2.1 f.2.2.1 f.2.2.2) M C h σ.2.2.2.2 s.heap := hC
  refine lv_iload_n X.ex X.by dX0_note_0 rfl (lv_at hl 1 rfl) ?_
  refine lv_iconst (v := 0) X.ex X.by dX0_note_1 (by decide) ?_
  refine lv_aload_n X.ex X.by dX0_note_2 rfl (lv_at hl 0 rfl) ?_
  refine hr_cget X hC 11 (by decide) rfl q78 dX0_note_3 ?_
  refine lv_iconst (v := 1) X.ex X.by dX0_note_6 (by decide) ?_
  refine lv_isub X.ex X.by dX0_note_7 ?_
  refine c_X0_in X hS ⟨Nat.le_of_ble_eq_true rfl, Nat.le_of_ble_eq_true rfl⟩ ⟨Nat.zero_le _, Nat.zero_le _⟩ hl.1 (Nat.le_of_ble_eq_true rfl) dX0_note_8 (fun locs hS => ?_)
  refine lv_if_eq (tgt := 23) X.ex X.by dX0_note_11 (by decide) (fun c_11 => ?_) (fun c_11 => ?_)
  · refine lv_bipush (v := (-101)) X.ex X.by dX0_note_23 (by decide) ?_
    first
      | exact hr_iret X hr hlk hS ⟨_, rfl, (if_pos (hr_if1 c_11)).symm, hC⟩ (Nat.le_refl _) (Nat.le_refl _) dX0_note_25
      | exact hr_iret X hr hlk hS ⟨_, rfl, (if_neg (hr_if0 c_11)).symm, hC⟩ (Nat.le_refl _) (Nat.le_refl _) dX0_note_25
  · have hj := hp_note_lt (n := σ.2.2.2.2.length) (Nat.lt_of_le_of_lt hn (by decide)) (hr_if1 c_11)
    refine lv_aload_n X.ex X.by dX0_note_14 rfl (lv_at hl 0 rfl) ?_
    refine hr_cget X hC 12 (by decide) rfl q79 dX0_note_15 ?_
    refine lv_iload_n X.ex X.by dX0_note_18 rfl (lv_at hl 1 rfl) ?_
    refine hr_cjld X hC hj.2 hj.1 hn dX0_note_19 ?_
    refine lv_goto (tgt := 25) X.ex X.by dX0_note_20 (by decide) ?_
    first
      | exact hr_iret X hr hlk hS ⟨_, rfl, (if_pos (hr_if1 c_11)).symm, hC⟩ (Nat.le_refl _) (Nat.le_refl _) dX0_note_25
      | exact hr_iret X hr hlk hS ⟨_, rfl, (if_neg (hr_if0 c_11)).symm, hC⟩ (Nat.le_refl _) (Nat.le_refl _) dX0_note_25
set_option maxHeartbeats 4000000 in
theorem k_X0_cells (l : Launch) {s0 : State} {D : va_G} {g : ClassId × ClassId × ClassId} (Z : hr_Z s0 D g) {b z : Nat} (h0 : s0.heap.size ≤ b) {K : hp_K} (hV : hp_KV K) (r : Int32) {sz : Nat} : hr_C l yX0_cells (ws_ yX0_cells cX0_cells 2 (some .int)) (hr_L 2 0 0) s0 b 20 sz [.ref b, .int r] (fun H => hr_cK D g b z K H) (hr_Qi (fun v H => v = ho_cells K r ∧ hr_cK D g b z K H)) 0 0 := by
  refine hr_meth (by decide) (Nat.le_of_ble_eq_true rfl) Z h0 ?_
  intro p e s m0 below meth c ls X hr hlk hnm htab hadm hsz hC hl
  have hl : lv_has ls 2 [(0, _), (1, _)] := hl
  have hreg := hr_reg (lo := b) (n := 20) (sz := s.heap.size)
  have hS := hr_S0 (s := s) (lo := b) (n := 20)
  obtain ⟨M, C, h, ta, lo, f, σ⟩ := K
  obtain ⟨hM, hok, hn⟩ := hV
  have hM : ∀ r, r < 8 → M r ≤ 12 := hM
  have hok : ∀ r k, r < 8 → k < M r → hp_ok (C r k) := hok
  have hn : hp_n σ ≤ 2800 := hn
  have hC : hr_cw D g b z (hr_cf b ta lo σ.1 (nI σ.2.1) 0 (nI σ.2.2.1) 0 0 0 (nI σ.2.2.2.2.length) f.1 f.2.1 f.2.2.1 f.2.2.2) M C h σ.2.2.2.2 s.heap := hC
  refine lv_iload_n X.ex X.by dX0_cells_0 rfl (lv_at hl 1 rfl) ?_
  refine c_X0_isRack X hS ⟨Nat.le_of_ble_eq_true rfl, Nat.le_of_ble_eq_true rfl⟩ ⟨Nat.zero_le _, Nat.zero_le _⟩ hl.1 (Nat.le_of_ble_eq_true rfl) dX0_cells_1 (fun locs hS => ?_)
  refine lv_if_eq (tgt := 19) X.ex X.by dX0_cells_4 (by decide) (fun c_4 => ?_) (fun c_4 => ?_)
  · refine lv_bipush (v := (-101)) X.ex X.by dX0_cells_19 (by decide) ?_
    first
      | exact hr_iret X hr hlk hS ⟨_, rfl, by show _ = ho_cells (M, C, h, ta, lo, f, σ) r; unfold ho_cells; rw [if_pos (hr_if1 c_4), ej], hC⟩ (Nat.le_refl _) (Nat.le_refl _) dX0_cells_21
      | exact hr_iret X hr hlk hS ⟨_, rfl, (if_neg (hr_if0 c_4)).symm, hC⟩ (Nat.le_refl _) (Nat.le_refl _) dX0_cells_21
  · obtain ⟨j, ej, hj8, ei⟩ : ∃ j, r.toNatClampNeg = j ∧ j < 8 ∧ r = nI j := ⟨_, rfl, (hp_rk_lt (hr_if1 c_4)).1, (hp_rk_lt (hr_if1 c_4)).2⟩
    refine lv_aload_n X.ex X.by dX0_cells_7 rfl (lv_at hl 0 rfl) ?_
    refine hr_cget X hC 0 (by decide) rfl q67 dX0_cells_8 ?_
    refine lv_iload_n X.ex X.by dX0_cells_11 rfl (lv_at hl 1 rfl) ?_
    refine hr_crk X hC ei hj8 dX0_cells_12 ?_
    refine hr_cmany X hC hj8 q60 dX0_cells_13 ?_
    refine lv_goto (tgt := 21) X.ex X.by dX0_cells_16 (by decide) ?_
    first
      | exact hr_iret X hr hlk hS ⟨_, rfl, by show _ = ho_cells (M, C, h, ta, lo, f, σ) r; unfold ho_cells; rw [if_pos (hr_if1 c_4), ej], hC⟩ (Nat.le_refl _) (Nat.le_refl _) dX0_cells_21
      | exact hr_iret X hr hlk hS ⟨_, rfl, (if_neg (hr_if0 c_4)).symm, hC⟩ (Nat.le_refl _) (Nat.le_refl _) dX0_cells_21
theorem ho_held_eq (w : Int32) : ho_held w = if w = 0 then 0 else if w = 1 then 0 else if w = 2 then 0 else -101 := by
  unfold ho_held
  by_cases h0 : w = 0
  · subst h0; decide
  by_cases h1 : w = 1
  · subst h1; decide
  by_cases h2 : w = 2
  · subst h2; decide
  rw [if_neg h0, if_neg h1, if_neg h2]
  refine if_neg (fun h => ?_)
  rw [hp_eq] at h0 h1 h2
  simp only [hp_le] at h
  have e0 : (0 : Int32).toInt = 0 := by decide
  have e1 : (1 : Int32).toInt = 1 := by decide
  have e2 : (2 : Int32).toInt = 2 := by decide
  omega
set_option maxHeartbeats 4000000 in
theorem k_X0_held (l : Launch) {s0 : State} {D : va_G} {g : ClassId × ClassId × ClassId} (Z : hr_Z s0 D g) {b z : Nat} (h0 : s0.heap.size ≤ b) {K : hp_K} (hV : hp_KV K) (w : Int32) {sz : Nat} : hr_C l yX0_held (ws_ yX0_held cX0_held 2 (some .int)) (hr_L 0 0 0) s0 b 20 sz [.ref b, .int w] (fun H => hr_cK D g b z K H) (hr_Qi (fun v H => v = ho_held w ∧ hr_cK D g b z K H)) 0 0 := by
  refine hr_meth (by decide) (Nat.le_of_ble_eq_true rfl) Z h0 ?_
  intro p e s m0 below meth c ls X hr hlk hnm htab hadm hsz hC hl
  have hl : lv_has ls 2 [(0, _), (1, _)] := hl
  have hreg := hr_reg (lo := b) (n := 20) (sz := s.heap.size)
  have hS := hr_S0 (s := s) (lo := b) (n := 20)
  obtain ⟨M, C, h, ta, lo, f, σ⟩ := K
  obtain ⟨hM, hok, hn⟩ := hV
  have hM : ∀ r, r < 8 → M r ≤ 12 := hM
  have hok : ∀ r k, r < 8 → k < M r → hp_ok (C r k) := hok
  have hn : hp_n σ ≤ 2800 := hn
  have hC : hr_cw D g b z (hr_cf b ta lo σ.1 (nI σ.2.1) 0 (nI σ.2.2.1) 0 0 0 (nI σ.2.2.2.2.length) f.1 f.2.1 f.2.2.1 f.2.2.2) M C h σ.2.2.2.2 s.heap := hC
  refine lv_iload_n X.ex X.by dX0_held_0 rfl (lv_at hl 1 rfl) ?_
  refine lv_if_ne (tgt := 11) X.ex X.by dX0_held_1 (by decide) (fun c_1 => ?_) (fun c_1 => ?_)
  · refine lv_iload_n X.ex X.by dX0_held_11 rfl (lv_at hl 1 rfl) ?_
    refine lv_iconst (v := 1) X.ex X.by dX0_held_12 (by decide) ?_
    refine lv_icmp_ne (tgt := 23) X.ex X.by dX0_held_13 (by decide) (fun c_13 => ?_) (fun c_13 => ?_)
    · refine lv_iload_n X.ex X.by dX0_held_23 rfl (lv_at hl 1 rfl) ?_
      refine lv_iconst (v := 2) X.ex X.by dX0_held_24 (by decide) ?_
      refine lv_icmp_ne (tgt := 35) X.ex X.by dX0_held_25 (by decide) (fun c_25 => ?_) (fun c_25 => ?_)
      · refine lv_bipush (v := (-101)) X.ex X.by dX0_held_35 (by decide) ?_
        refine hr_iret X hr hlk hS ⟨_, rfl, ?_, hC⟩ (Nat.le_refl _) (Nat.le_refl _) dX0_held_37
        rw [ho_held_eq]
        first
          | rw [if_pos c_1]
          | rw [if_neg c_1, if_pos c_13]
          | rw [if_neg c_1, if_neg c_13, if_pos c_25]
          | rw [if_neg c_1, if_neg c_13, if_neg c_25]
      · refine lv_aload_n X.ex X.by dX0_held_28 rfl (lv_at hl 0 rfl) ?_
        refine hr_cget X hC 10 (by decide) rfl q77 dX0_held_29 ?_
        refine lv_goto (tgt := 37) X.ex X.by dX0_held_32 (by decide) ?_
        refine hr_iret X hr hlk hS ⟨_, rfl, ?_, hC⟩ (Nat.le_refl _) (Nat.le_refl _) dX0_held_37
        rw [ho_held_eq]
        first
          | rw [if_pos c_1]
          | rw [if_neg c_1, if_pos c_13]
          | rw [if_neg c_1, if_neg c_13, if_pos c_25]
          | rw [if_neg c_1, if_neg c_13, if_neg c_25]
    · refine lv_aload_n X.ex X.by dX0_held_16 rfl (lv_at hl 0 rfl) ?_
      refine hr_cget X hC 9 (by decide) rfl q76 dX0_held_17 ?_
      refine lv_goto (tgt := 37) X.ex X.by dX0_held_20 (by decide) ?_
      refine hr_iret X hr hlk hS ⟨_, rfl, ?_, hC⟩ (Nat.le_refl _) (Nat.le_refl _) dX0_held_37
      rw [ho_held_eq]
      first
        | rw [if_pos c_1]
        | rw [if_neg c_1, if_pos c_13]
        | rw [if_neg c_1, if_neg c_13, if_pos c_25]
        | rw [if_neg c_1, if_neg c_13, if_neg c_25]
  · refine lv_aload_n X.ex X.by dX0_held_4 rfl (lv_at hl 0 rfl) ?_
    refine hr_cget X hC 8 (by decide) rfl q75 dX0_held_5 ?_
    refine lv_goto (tgt := 37) X.ex X.by dX0_held_8 (by decide) ?_
    refine hr_iret X hr hlk hS ⟨_, rfl, ?_, hC⟩ (Nat.le_refl _) (Nat.le_refl _) dX0_held_37
    rw [ho_held_eq]
    first
      | rw [if_pos c_1]
      | rw [if_neg c_1, if_pos c_13]
      | rw [if_neg c_1, if_neg c_13, if_pos c_25]
      | rw [if_neg c_1, if_neg c_13, if_neg c_25]
end HRC
end
section
/-! THROWING: a handler is found, or the method is left; the tables may become warmer in the search -/
section HRTH
/-- the search ends with h, in tables vm' -/
def hr_Fi (e : Env) (s : State) (f : JFrame) (a : Addr) (h : Handler) (vm' : Vm) : Prop :=
  ∀ (Q : Handler → Pre) (E : CtlPost) (d : Bool) (acts : List Action), wp (findHandler f a) Q E e d acts s ↔ Q h d acts (s.setVm vm')
theorem hr_stepC {e : Env} {s : State} {a : Addr} {f : JFrame} {r : List Frame} {pc : Nat} {vm' : Vm} (hfind : hr_Fi e s f a (.found pc) vm') :
    (stepThrowing e s a (.java f :: r)).Is ((s.setVm vm').setFrames (.java { f with pc := pc, stack := [.ref a] } :: r)) [] := by
  simp only [stepThrowing, searchFrame, vmDo]
  generalize hr : Sem.go _ e false [] s = res
  obtain ⟨as, rfl, ha⟩ := Sem.eq_ok_of hr (a := Handler.found pc) (s' := s.setVm vm') (acts' := []) (by simp [hfind _ _ _ _])
  exact ⟨rfl, ha⟩
theorem hr_stepL {e : Env} {s : State} {a : Addr} {f : JFrame} {r : List Frame} {meth : Method} {vm' : Vm}
    (hm : vm'.method? f.method = some meth) (hl : meth.locks = false) (hlocked : f.locked = none) (hentered : f.entered = []) (hfind : hr_Fi e s f a .none vm') :
    (stepThrowing e s a (.java f :: r)).Is ((s.setVm vm').setFrames (.throwing a :: r)) [] := by
  simp only [stepThrowing, searchFrame, vmDo]
  generalize hr : Sem.go _ e false [] s = res
  obtain ⟨as, rfl, ha⟩ := Sem.eq_ok_of hr (a := Handler.none) (s' := s.setVm vm') (acts' := [])
    (by cases hp : e.platform.frameOwnsMonitors <;> simp [hfind _ _ _ _, hm, hl, hlocked, hentered, hp, leaveIfLocked])
  exact ⟨rfl, ha⟩
theorem hr_caught {tb : Tables} {e : Env} {below : List Frame} {s target : State} {g : JFrame} {c : Code} {a : Addr} {vm' : Vm} (h : At s g.method c below) {pc : Nat} (hfind : hr_Fi e ((s.setTop g).pushFrame (.throwing a)) g a (.found pc) vm')
    (hrest : Steps tb e below ((s.setVm vm').setTop { g with pc := pc, stack := [.ref a] }) target) :
    Steps tb e below ((s.setTop g).pushFrame (.throwing a)) target := by
  obtain ⟨hgo, hw⟩ := h.throwing a
  refine Steps.head hgo hw ?_
  rw [stepThread_throwing (frames_entered h.top _), (hr_stepC (s := (s.setTop g).pushFrame (.throwing a)) hfind).1]
  obtain ⟨g₀, hg⟩ := Option.isSome_iff_exists.mp h.top
  obtain ⟨r, hr⟩ := State.topJava?_eq_some.mp hg
  have hr' : (s.setVm vm').frames = .java g₀ :: r := hr
  rw [State.setTop_of_frames _ hr'] at hrest
  rw [State.pushFrame, State.setFrames_setVm, State.setFrames_setFrames, State.setTop_of_frames _ hr, State.setFrames_setVm, State.setFrames_setFrames, hr]
  exact hrest
theorem hr_left {tb : Tables} {e : Env} {below : List Frame} {s target : State} {g : JFrame} {c : Code} {a : Addr} {vm' : Vm} (h : At s g.method c below) {meth : Method} (hm : vm'.method? g.method = some meth) (hl : meth.locks = false)
    (hlocked : g.locked = none) (hentered : g.entered = []) (hfind : hr_Fi e ((s.setTop g).pushFrame (.throwing a)) g a .none vm')
    (hrest : Steps tb e below ((s.setVm vm').setFrames (.throwing a :: s.frames.tail)) target) :
    Steps tb e below ((s.setTop g).pushFrame (.throwing a)) target := by
  obtain ⟨hgo, hw⟩ := h.throwing a
  refine Steps.head hgo hw ?_
  rw [stepThread_throwing (frames_entered h.top _), (hr_stepL (s := (s.setTop g).pushFrame (.throwing a)) hm hl hlocked hentered hfind).1]
  obtain ⟨g₀, hg⟩ := Option.isSome_iff_exists.mp h.top
  obtain ⟨r, hr⟩ := State.topJava?_eq_some.mp hg
  rw [State.pushFrame, State.setFrames_setVm, State.setFrames_setFrames, State.setTop_of_frames _ hr, State.setFrames_setVm, State.setFrames_setFrames]
  exact hrest
/-- the exceptions' classes, and the entries of the class's pool that name them -/
def hr_xn (k : Nat) : String := match k with
  | 0 => "HoistRacks$Stuck"
  | 1 => "HoistRacks$Spill"
  | 2 => "HoistRacks$Weary"
  | 3 => "java/lang/ArithmeticException"
  | 4 => "java/lang/NullPointerException"
  | _ => "java/lang/ArrayIndexOutOfBoundsException"
def hr_xi (k : Nat) : Nat := match k with
  | 0 => 59
  | 1 => 104
  | 2 => 89
  | 3 => 109
  | 4 => 111
  | _ => 113
theorem hr_xl (k : Nat) : Cond.classLink "HoistRacks" (hr_xi k) (hr_xn k) ∈ lw_all := by
  match k with
  | 0 => exact q155
  | 1 => exact q156
  | 2 => exact q157
  | 3 => exact q158
  | 4 => exact q245
  | _ + 5 => exact q270
theorem hr_xy (k : Nat) : Cond.castable (hr_xn k) (hr_xn k) ∈ lw_tbl := by
  match k with
  | 0 => exact q298
  | 1 => exact q357
  | 2 => exact q330
  | 3 => exact q222
  | 4 => exact q267
  | _ + 5 => exact q285
/-- an object of the class hr_xn k -/
def hr_xc (s : State) (k : Nat) (a : Nat) (H : Heap) : Prop := ∃ cell : Cell, H[a]? = some cell ∧ cell.vm.isStatics = false ∧ s.vm.findClass (hr_xn k) = some cell.cls
variable {p : Program} {l : Launch} {e : Env} {R : Room} {s : State} {m : MethodId} {args : Array Value} {below : List Frame} {meth : Method} {c : Code} {H : Heap} {locs : List Loc} {cells slots : Nat} {Q : State → Prop}
variable {cc : ByteArray} {nL : Nat} {s0 : State} {D : va_G} {g : ClassId × ClassId × ClassId} {A : Nat → Prop} {pc : Nat} {ls : Array Slot} {rest : List Value} {a : Nat}
theorem hr_ncs {own : String} (X : hr_X p s m args c cc nL own s0 D g A) {k j : Nat} (hw : ∀ (args : Array Value) (s : State), (Jvm.Cond.and given_1 narrow_1).before args s = true → (Cond.not (.castable (hr_xn k) (hr_xn j))).before args s = true) : va_Nc (hr_xn k) (hr_xn j) s := by
  obtain ⟨-, ⟨b0, -, hgv, -⟩, hB, -, -⟩ := X
  exact va_Nc.moved hB.1.alike (va_Nc.of (hw _ _ hgv))
theorem hr_X.cw {own : String} (X : hr_X p s m args c cc nL own s0 D g A) (k : Nat) : va_Nw (.castable (hr_xn k) (hr_xn k)) s := by
  obtain ⟨-, ⟨b0, hz, -, -⟩, hB, -, -⟩ := X
  exact va_Nw.warmC hB.1 (va_Nw.of rfl (hz _ (hr_xy k)))
theorem hr_nc01 (args : Array Value) (s : State) (h : (Jvm.Cond.and given_1 narrow_1).before args s = true) : (Cond.not (.castable (hr_xn 0) (hr_xn 1))).before args s = true := flat_of_before _ h _ (by decide +kernel)
theorem hr_nc02 (args : Array Value) (s : State) (h : (Jvm.Cond.and given_1 narrow_1).before args s = true) : (Cond.not (.castable (hr_xn 0) (hr_xn 2))).before args s = true := flat_of_before _ h _ (by decide +kernel)
theorem hr_nc03 (args : Array Value) (s : State) (h : (Jvm.Cond.and given_1 narrow_1).before args s = true) : (Cond.not (.castable (hr_xn 0) (hr_xn 3))).before args s = true := flat_of_before _ h _ (by decide +kernel)
theorem hr_nc04 (args : Array Value) (s : State) (h : (Jvm.Cond.and given_1 narrow_1).before args s = true) : (Cond.not (.castable (hr_xn 0) (hr_xn 4))).before args s = true := flat_of_before _ h _ (by decide +kernel)
theorem hr_nc05 (args : Array Value) (s : State) (h : (Jvm.Cond.and given_1 narrow_1).before args s = true) : (Cond.not (.castable (hr_xn 0) (hr_xn 5))).before args s = true := flat_of_before _ h _ (by decide +kernel)
theorem hr_nc10 (args : Array Value) (s : State) (h : (Jvm.Cond.and given_1 narrow_1).before args s = true) : (Cond.not (.castable (hr_xn 1) (hr_xn 0))).before args s = true := flat_of_before _ h _ (by decide +kernel)
theorem hr_nc12 (args : Array Value) (s : State) (h : (Jvm.Cond.and given_1 narrow_1).before args s = true) : (Cond.not (.castable (hr_xn 1) (hr_xn 2))).before args s = true := flat_of_before _ h _ (by decide +kernel)
theorem hr_nc13 (args : Array Value) (s : State) (h : (Jvm.Cond.and given_1 narrow_1).before args s = true) : (Cond.not (.castable (hr_xn 1) (hr_xn 3))).before args s = true := flat_of_before _ h _ (by decide +kernel)
theorem hr_nc14 (args : Array Value) (s : State) (h : (Jvm.Cond.and given_1 narrow_1).before args s = true) : (Cond.not (.castable (hr_xn 1) (hr_xn 4))).before args s = true := flat_of_before _ h _ (by decide +kernel)
theorem hr_nc15 (args : Array Value) (s : State) (h : (Jvm.Cond.and given_1 narrow_1).before args s = true) : (Cond.not (.castable (hr_xn 1) (hr_xn 5))).before args s = true := flat_of_before _ h _ (by decide +kernel)
theorem hr_nc20 (args : Array Value) (s : State) (h : (Jvm.Cond.and given_1 narrow_1).before args s = true) : (Cond.not (.castable (hr_xn 2) (hr_xn 0))).before args s = true := flat_of_before _ h _ (by decide +kernel)
theorem hr_nc21 (args : Array Value) (s : State) (h : (Jvm.Cond.and given_1 narrow_1).before args s = true) : (Cond.not (.castable (hr_xn 2) (hr_xn 1))).before args s = true := flat_of_before _ h _ (by decide +kernel)
theorem hr_nc23 (args : Array Value) (s : State) (h : (Jvm.Cond.and given_1 narrow_1).before args s = true) : (Cond.not (.castable (hr_xn 2) (hr_xn 3))).before args s = true := flat_of_before _ h _ (by decide +kernel)
theorem hr_nc24 (args : Array Value) (s : State) (h : (Jvm.Cond.and given_1 narrow_1).before args s = true) : (Cond.not (.castable (hr_xn 2) (hr_xn 4))).before args s = true := flat_of_before _ h _ (by decide +kernel)
theorem hr_nc25 (args : Array Value) (s : State) (h : (Jvm.Cond.and given_1 narrow_1).before args s = true) : (Cond.not (.castable (hr_xn 2) (hr_xn 5))).before args s = true := flat_of_before _ h _ (by decide +kernel)
theorem hr_nc30 (args : Array Value) (s : State) (h : (Jvm.Cond.and given_1 narrow_1).before args s = true) : (Cond.not (.castable (hr_xn 3) (hr_xn 0))).before args s = true := flat_of_before _ h _ (by decide +kernel)
theorem hr_nc31 (args : Array Value) (s : State) (h : (Jvm.Cond.and given_1 narrow_1).before args s = true) : (Cond.not (.castable (hr_xn 3) (hr_xn 1))).before args s = true := flat_of_before _ h _ (by decide +kernel)
theorem hr_nc32 (args : Array Value) (s : State) (h : (Jvm.Cond.and given_1 narrow_1).before args s = true) : (Cond.not (.castable (hr_xn 3) (hr_xn 2))).before args s = true := flat_of_before _ h _ (by decide +kernel)
theorem hr_nc34 (args : Array Value) (s : State) (h : (Jvm.Cond.and given_1 narrow_1).before args s = true) : (Cond.not (.castable (hr_xn 3) (hr_xn 4))).before args s = true := flat_of_before _ h _ (by decide +kernel)
theorem hr_nc35 (args : Array Value) (s : State) (h : (Jvm.Cond.and given_1 narrow_1).before args s = true) : (Cond.not (.castable (hr_xn 3) (hr_xn 5))).before args s = true := flat_of_before _ h _ (by decide +kernel)
theorem hr_nc40 (args : Array Value) (s : State) (h : (Jvm.Cond.and given_1 narrow_1).before args s = true) : (Cond.not (.castable (hr_xn 4) (hr_xn 0))).before args s = true := flat_of_before _ h _ (by decide +kernel)
theorem hr_nc41 (args : Array Value) (s : State) (h : (Jvm.Cond.and given_1 narrow_1).before args s = true) : (Cond.not (.castable (hr_xn 4) (hr_xn 1))).before args s = true := flat_of_before _ h _ (by decide +kernel)
theorem hr_nc42 (args : Array Value) (s : State) (h : (Jvm.Cond.and given_1 narrow_1).before args s = true) : (Cond.not (.castable (hr_xn 4) (hr_xn 2))).before args s = true := flat_of_before _ h _ (by decide +kernel)
theorem hr_nc43 (args : Array Value) (s : State) (h : (Jvm.Cond.and given_1 narrow_1).before args s = true) : (Cond.not (.castable (hr_xn 4) (hr_xn 3))).before args s = true := flat_of_before _ h _ (by decide +kernel)
theorem hr_nc45 (args : Array Value) (s : State) (h : (Jvm.Cond.and given_1 narrow_1).before args s = true) : (Cond.not (.castable (hr_xn 4) (hr_xn 5))).before args s = true := flat_of_before _ h _ (by decide +kernel)
theorem hr_nc50 (args : Array Value) (s : State) (h : (Jvm.Cond.and given_1 narrow_1).before args s = true) : (Cond.not (.castable (hr_xn 5) (hr_xn 0))).before args s = true := flat_of_before _ h _ (by decide +kernel)
theorem hr_nc51 (args : Array Value) (s : State) (h : (Jvm.Cond.and given_1 narrow_1).before args s = true) : (Cond.not (.castable (hr_xn 5) (hr_xn 1))).before args s = true := flat_of_before _ h _ (by decide +kernel)
theorem hr_nc52 (args : Array Value) (s : State) (h : (Jvm.Cond.and given_1 narrow_1).before args s = true) : (Cond.not (.castable (hr_xn 5) (hr_xn 2))).before args s = true := flat_of_before _ h _ (by decide +kernel)
theorem hr_nc53 (args : Array Value) (s : State) (h : (Jvm.Cond.and given_1 narrow_1).before args s = true) : (Cond.not (.castable (hr_xn 5) (hr_xn 3))).before args s = true := flat_of_before _ h _ (by decide +kernel)
theorem hr_nc54 (args : Array Value) (s : State) (h : (Jvm.Cond.and given_1 narrow_1).before args s = true) : (Cond.not (.castable (hr_xn 5) (hr_xn 4))).before args s = true := flat_of_before _ h _ (by decide +kernel)
theorem hr_X.nc {own : String} (X : hr_X p s m args c cc nL own s0 D g A) {k j : Nat} (hk : k < 6) (hj : j < 6) (hne : k ≠ j) : va_Nc (hr_xn k) (hr_xn j) s := by
  match k, hk, j, hj, hne with
  | 0, _, 0, _, h => exact absurd rfl h
  | 0, _, 1, _, _ => exact hr_ncs X hr_nc01
  | 0, _, 2, _, _ => exact hr_ncs X hr_nc02
  | 0, _, 3, _, _ => exact hr_ncs X hr_nc03
  | 0, _, 4, _, _ => exact hr_ncs X hr_nc04
  | 0, _, 5, _, _ => exact hr_ncs X hr_nc05
  | 1, _, 0, _, _ => exact hr_ncs X hr_nc10
  | 1, _, 1, _, h => exact absurd rfl h
  | 1, _, 2, _, _ => exact hr_ncs X hr_nc12
  | 1, _, 3, _, _ => exact hr_ncs X hr_nc13
  | 1, _, 4, _, _ => exact hr_ncs X hr_nc14
  | 1, _, 5, _, _ => exact hr_ncs X hr_nc15
  | 2, _, 0, _, _ => exact hr_ncs X hr_nc20
  | 2, _, 1, _, _ => exact hr_ncs X hr_nc21
  | 2, _, 2, _, h => exact absurd rfl h
  | 2, _, 3, _, _ => exact hr_ncs X hr_nc23
  | 2, _, 4, _, _ => exact hr_ncs X hr_nc24
  | 2, _, 5, _, _ => exact hr_ncs X hr_nc25
  | 3, _, 0, _, _ => exact hr_ncs X hr_nc30
  | 3, _, 1, _, _ => exact hr_ncs X hr_nc31
  | 3, _, 2, _, _ => exact hr_ncs X hr_nc32
  | 3, _, 3, _, h => exact absurd rfl h
  | 3, _, 4, _, _ => exact hr_ncs X hr_nc34
  | 3, _, 5, _, _ => exact hr_ncs X hr_nc35
  | 4, _, 0, _, _ => exact hr_ncs X hr_nc40
  | 4, _, 1, _, _ => exact hr_ncs X hr_nc41
  | 4, _, 2, _, _ => exact hr_ncs X hr_nc42
  | 4, _, 3, _, _ => exact hr_ncs X hr_nc43
  | 4, _, 4, _, h => exact absurd rfl h
  | 4, _, 5, _, _ => exact hr_ncs X hr_nc45
  | 5, _, 0, _, _ => exact hr_ncs X hr_nc50
  | 5, _, 1, _, _ => exact hr_ncs X hr_nc51
  | 5, _, 2, _, _ => exact hr_ncs X hr_nc52
  | 5, _, 3, _, _ => exact hr_ncs X hr_nc53
  | 5, _, 4, _, _ => exact hr_ncs X hr_nc54
  | 5, _, 5, _, h => exact absurd rfl h
/-- the handler that takes an object of the class hr_xn k -/
def hr_isk (k t : Nat) : Bool := t == hr_xi k
theorem hr_find (X : hr_X p s m args c cc nL RX0 s0 D g A) {hh : List (Nat × Nat × Nat × Nat)} (htab : c.exceptionTable.toList.map hr_row = hh) (hrows : ∀ q ∈ hh, q.2.2.2 = 0 ∨ ∃ j, j < 6 ∧ q.2.2.2 = hr_xi j) {k : Nat} (hk6 : k < 6) (hO : hr_xc s k a H) {T : State} (hT : T.heap = H) (Xs : Stand p l e R s m args below meth c T locs cells slots) {f : JFrame} (hf : f.method = m) :
    ∃ vm', s.WarmedH vm' ∧ hr_Fi e ((T.setTop f).pushFrame (.throwing a)) f a (hr_hand (hr_pick (hr_isk k) f.pc hh)) vm' := by
  obtain ⟨cell, h1, h2, h3⟩ := hO
  have hpl : e.platform.magicAccessors = ({} : Platform).magicAccessors := by rw [Xs.admits.platform]
  have hobj : ∀ k, cell.vm ≠ .statics k := VmData.noStatics_of h2
  have hkc : ∃ k, s.vm.classes[cell.cls]? = some k := by
    obtain ⟨ks, hks, -⟩ := Vm.findClass_spec h3
    exact ⟨ks, hks⟩
  have hvm := Stand.throwing_vm T f a
  have hhp := Stand.throwing_heap T f a
  obtain ⟨vm', hW', hs⟩ := hr_search (s := s) (e := e) (f := f) (a := a) (cell := cell) (is := hr_isk k) hpl hobj hkc c.exceptionTable.toList ((T.setTop f).pushFrame (.throwing a)) (by rw [hvm]; exact Xs.warmed) (by rw [hhp, hT]; exact h1) (fun x hx h0 => by
    have hin : hr_row x ∈ hh := by rw [← htab]; exact List.mem_map_of_mem hx
    rcases hrows _ hin with hz | ⟨j, hj6, hj⟩
    · exact absurd hz h0
    · have hj : x.catchType = hr_xi j := hj
      obtain ⟨ci, hci, hcl⟩ := Cond.classLink_spec X.ow (X.ts _ (hr_xl j)) e.platform hpl
      rw [← hj] at hcl
      refine ⟨ci, by rw [hf]; exact hcl, ?_, ?_⟩
      · obtain ⟨ks, hks, -⟩ := Vm.findClass_spec hci
        exact ⟨ks, hks⟩
      · by_cases e1 : k = j
        · subst e1
          obtain ⟨c0, t0, f1, f2, f3⟩ := Cond.castable_spec (va_Nw.use (A := args) rfl (X.cw k))
          cases h3.symm.trans f1
          cases hci.symm.trans f2
          rw [f3, hj]
          simp [hr_isk]
        · obtain ⟨c0, t0, f1, f2, f3⟩ := X.nc hk6 hj6 e1
          cases h3.symm.trans f1
          cases hci.symm.trans f2
          rw [f3, hj]
          have hne : hr_xi j ≠ hr_xi k := by
            match k, hk6, j, hj6, e1 with
            | 0, _, 0, _, h => exact absurd rfl h
            | 0, _, 1, _, _ => decide
            | 0, _, 2, _, _ => decide
            | 0, _, 3, _, _ => decide
            | 0, _, 4, _, _ => decide
            | 0, _, 5, _, _ => decide
            | 1, _, 0, _, _ => decide
            | 1, _, 1, _, h => exact absurd rfl h
            | 1, _, 2, _, _ => decide
            | 1, _, 3, _, _ => decide
            | 1, _, 4, _, _ => decide
            | 1, _, 5, _, _ => decide
            | 2, _, 0, _, _ => decide
            | 2, _, 1, _, _ => decide
            | 2, _, 2, _, h => exact absurd rfl h
            | 2, _, 3, _, _ => decide
            | 2, _, 4, _, _ => decide
            | 2, _, 5, _, _ => decide
            | 3, _, 0, _, _ => decide
            | 3, _, 1, _, _ => decide
            | 3, _, 2, _, _ => decide
            | 3, _, 3, _, h => exact absurd rfl h
            | 3, _, 4, _, _ => decide
            | 3, _, 5, _, _ => decide
            | 4, _, 0, _, _ => decide
            | 4, _, 1, _, _ => decide
            | 4, _, 2, _, _ => decide
            | 4, _, 3, _, _ => decide
            | 4, _, 4, _, h => exact absurd rfl h
            | 4, _, 5, _, _ => decide
            | 5, _, 0, _, _ => decide
            | 5, _, 1, _, _ => decide
            | 5, _, 2, _, _ => decide
            | 5, _, 3, _, _ => decide
            | 5, _, 4, _, _ => decide
            | 5, _, 5, _, h => exact absurd rfl h
          simp [hr_isk, hne])
  refine ⟨vm', hW', fun Q E d acts => ?_⟩
  have hm : ((T.setTop f).pushFrame (.throwing a)).vm.method? f.method = some meth := by rw [hvm, hf]; exact Xs.method'
  rw [W.findHandler_eq hm Xs.code, hs, htab]
/-- caught -/
theorem hr_catch (X : hr_X p s m args c cc nL RX0 s0 D g A) {hh : List (Nat × Nat × Nat × Nat)} (htab : c.exceptionTable.toList.map hr_row = hh) (hrows : ∀ q ∈ hh, q.2.2.2 = 0 ∨ ∃ j, j < 6 ∧ q.2.2.2 = hr_xi j) {k : Nat} (hk6 : k < 6) (hO : hr_xc s k a H) {hpc : Nat} (hp : hr_pick (hr_isk k) pc hh = some hpc)
    (kk : W p l e R s m args below meth c H locs cells slots Q (F0 m hpc ls [.ref a])) : hr_T p l e R s m args below meth c H locs cells slots Q (F0 m pc ls rest) a := by
  intro T hT Xs
  obtain ⟨vm', hW', hF⟩ := hr_find X htab hrows hk6 hO hT Xs (f := F0 m pc ls rest) rfl
  rw [show (F0 m pc ls rest).pc = pc from rfl, hp] at hF
  obtain ⟨t, a1, b1⟩ := kk (T.setVm vm') hT (Xs.noted hW')
  exact ⟨t, hr_caught (g := F0 m pc ls rest) Xs.here hF a1, b1⟩
/-- not caught: the method is left -/
theorem hr_leave {lo n mc ms : Nat} {Qb : Outcome → Heap → Prop} (X : hr_X p s m args c cc nL RX0 s0 D g (hr_A lo n s.heap.size)) (hlk : meth.locks = false) {hh : List (Nat × Nat × Nat × Nat)} (htab : c.exceptionTable.toList.map hr_row = hh) (hrows : ∀ q ∈ hh, q.2.2.2 = 0 ∨ ∃ j, j < 6 ∧ q.2.2.2 = hr_xi j) {k : Nat} (hk6 : k < 6) (hO : hr_xc s k a H) (hp : hr_pick (hr_isk k) pc hh = none)
    (hS : va_S (hr_A lo n s.heap.size) s.heap H locs) (hQ : Qb (.threw a) H) (hc : cells ≤ mc) (hs : slots ≤ ms) : hr_T p l e R s m args below meth c H locs cells slots (hr_Q below (hr_Qc lo n Qb) args s mc ms (hr_A lo n s.heap.size)) (F0 m pc ls rest) a := by
  refine hr_T.widen hc hs ?_
  intro T hT Xs
  obtain ⟨vm', hW', hF⟩ := hr_find X htab hrows hk6 hO hT Xs (f := F0 m pc ls rest) rfl
  rw [show (F0 m pc ls rest).pc = pc from rfl, hp] at hF
  have Y := Xs.noted hW'
  obtain ⟨g₁, hfr'⟩ := Y.frames_eq
  have hheap : ((T.setVm vm').setFrames (.throwing a :: below)).heap = H := hT
  refine ⟨(T.setVm vm').setFrames (.throwing a :: below), ?_, .threw a, Y.here.running, State.frames_setFrames _ (State.cur_lt_of_frames hfr'), ⟨by rw [hheap]; exact hQ, by rw [hheap]; exact hr_kpS hS⟩, locs, (Y.ends _), hS.2.2⟩
  refine hr_left (g := F0 m pc ls rest) (meth := meth) Xs.here Y.method' hlk rfl rfl hF ?_
  rw [Xs.tail]
  exact Steps.refl _
end HRTH
end
section
/-! WHAT THE MACHINE ITSELF THROWS: / by zero, an index outside, a null's field; in a method without handlers that has written nothing yet -/
section HRVT
/-- an object with a class, a free monitor, and its cause -/
def hr_xo (s0 : State) (C : String) (a : Nat) (v : Value) (H : Heap) : Prop :=
  ∃ cell : Cell, H[a]? = some cell ∧ cell.monitor = {} ∧ cell.vm = .none ∧ s0.vm.findClass C = some cell.cls ∧ ∃ c k i f, s0.fieldFound? "java/lang/Throwable" "cause" "Ljava/lang/Throwable;" = some (c, k, i, f) ∧ cell.slots[f.slot]? = some v
theorem hr_xo.kept {s0 : State} {C : String} {a : Nat} {v : Value} {H H1 : Heap} (h : hr_xo s0 C a v H) (e : H1[a]? = H[a]?) : hr_xo s0 C a v H1 := by
  obtain ⟨cell, h1, h2⟩ := h
  exact ⟨cell, e.trans h1, h2⟩
def hr_kw (w : Cond) : Bool := match w with
  | .castable _ _ => true
  | .declares _ => true
  | .laysStatic _ _ _ => true
  | _ => false
def hr_rw : List Cond := [.isRef (.static "java/lang/Throwable" "UNASSIGNED_STACK" "[Ljava/lang/StackTraceElement;"), .isRef (.static "java/lang/Throwable" "SUPPRESSED_SENTINEL" "Ljava/util/List;")]
def hr_okw (w : Cond) : Bool := decide (w ∈ lw_all) || (decide (w ∈ lw_tbl) && hr_kw w) || decide (w ∈ hr_rw)
theorem hr_lsm {s0 s : State} {o n d : String} {a0 a1 : Array Value} (hvm : s0.vm.Alike s.vm) (hq : ∀ q : Nat, q < s0.heap.size → s.heap[q]? = s0.heap[q]?) (h : (Cond.laysStatic o n d).before a0 s0 = true) : (Cond.laysStatic o n d).before a1 s = true := by
  obtain ⟨c, k, i, f, a, cell, h1, h2, h3, h4, h5, h6, h7, h8, h9⟩ := Cond.laysStatic_spec h
  obtain ⟨k', hi', he⟩ := State.fieldFound?_setVm hvm h2
  have hi2 : s.fieldFound? o n d = some (c, k', i, f) := hi'
  have hc2 : s.vm.findClass o = some c := by rw [hvm.findClass]; exact h1
  have ha2 : k'.statics = some a := by rw [he]; exact h4
  have hh2 : s.heap[a]? = some cell := (hq a (hr_lt h5)).trans h5
  have ht2 : k'.staticTypes[f.slot]? = some f.type := by rw [he]; exact h9
  simp [Cond.before, Cond.holds, Cond.value, hc2, hi2, ha2, hh2, h3, h6, h7, h8, ht2]
theorem hr_rfm {s0 s : State} {o n d : String} {a0 a1 : Array Value} (hvm : s0.vm.Alike s.vm) (hq : ∀ q : Nat, q < s0.heap.size → s.heap[q]? = s0.heap[q]?) (hl : (Cond.laysStatic o n d).before a0 s0 = true) (h : (Cond.isRef (.static o n d)).before a0 s0 = true) : (Cond.isRef (.static o n d)).before a1 s = true := by
  obtain ⟨c, k, i, f, a, cell, h1, h2, h3, h4, h5, h6, h7, h8, h9⟩ := Cond.laysStatic_spec hl
  obtain ⟨k', hi', he⟩ := State.fieldFound?_setVm hvm h2
  have hi2 : s.fieldFound? o n d = some (c, k', i, f) := hi'
  have ha2 : k'.statics = some a := by rw [he]; exact h4
  have hh2 : s.heap[a]? = some cell := (hq a (hr_lt h5)).trans h5
  have e1 : (Term.static o n d).eval a0 s0 none [] s0 = cell.slots[f.slot]? := by
    simp [Term.eval, State.fieldNamed?, h2, h3, h4, h5, h6]
  have e2 : (Term.static o n d).eval a1 s none [] s = cell.slots[f.slot]? := by
    simp [Term.eval, State.fieldNamed?, hi2, h3, ha2, hh2, h6]
  simp only [Cond.before, Cond.holds, Cond.value, e1] at h
  simp only [Cond.before, Cond.holds, Cond.value, e2]
  exact h
theorem hr_r0 (args : Array Value) (s : State) (h : (Jvm.Cond.and given_1 narrow_1).before args s = true) : ∀ w ∈ hr_rw, w.before args s = true := by
  intro w hw
  simp only [hr_rw, List.mem_cons, List.not_mem_nil, or_false] at hw
  rcases hw with rfl | rfl
  · exact flat_of_before _ h _ (by decide +kernel)
  · exact flat_of_before _ h _ (by decide +kernel)
variable {p : Program} {l : Launch} {e : Env} {R : Room} {s : State} {m : MethodId} {args : Array Value} {below : List Frame} {meth : Method} {c : Code} {H : Heap} {locs : List Loc} {cells slots : Nat} {Q : State → Prop}
variable {cc : ByteArray} {nL : Nat} {own : String} {s0 : State} {D : va_G} {g : ClassId × ClassId × ClassId} {A : Nat → Prop} {pc : Nat} {ls : Array Slot} {rest : List Value} {a : Nat}
theorem hr_X.atom (X : hr_X p s m args c cc nL own s0 D g A) {w : Cond} (h : hr_okw w = true) : w.before args s = true := by
  have hts := X.ts
  obtain ⟨-, ⟨b0, hz, hgv, -⟩, hB, -, -⟩ := X
  simp only [hr_okw, Bool.or_eq_true, Bool.and_eq_true, decide_eq_true_eq] at h
  rcases h with (h | ⟨h, hk⟩) | h
  · exact hts _ h
  · match w, hk, h with
    | .castable _ _, _, h => exact va_Nw.use rfl (va_Nw.warmC hB.1 (va_Nw.of rfl (hz _ h)))
    | .declares _, _, h => exact va_Nw.use rfl (va_Nw.warmD hB.1 (va_Nw.of rfl (hz _ h)))
    | .laysStatic _ _ _, _, h => exact hr_lsm hB.1.alike hB.2 (hz _ h)
  · have h1 := hr_r0 _ _ hgv _ h
    simp only [hr_rw, List.mem_cons, List.not_mem_nil, or_false] at h
    rcases h with rfl | rfl
    · exact hr_rfm hB.1.alike hB.2 (hz _ q173) h1
    · exact hr_rfm hB.1.alike hB.2 (hz _ q175) h1
theorem hr_X.atoms (X : hr_X p s m args c cc nL own s0 D g A) {ws : List Cond} (h : ws.all hr_okw = true) : ∀ w ∈ ws, w.before args s = true := fun w hw => X.atom (List.all_eq_true.mp h w hw)
theorem hr_same0 {t : State} {k n : Nat} (h : s.sameButNew t [] k n) : ∀ q : Nat, q < s.heap.size → t.heap[q]? = s.heap[q]? := by
  intro q hq
  have hs : s.heap[q]? = some s.heap[q] := Array.getElem?_eq_getElem hq
  obtain ⟨c', h1, h2, h3, h4⟩ := h.2.2.2.2.2 q _ hs
  rw [h1, hs]
  have e : c'.slots = s.heap[q].slots := Array.ext_getElem? (fun i => h4 i (by intro hm; cases hm))
  rw [h2, e]
/-- the cause's field, back to the law's start -/
theorem hr_X.ff (X : hr_X p s m args c cc nL own s0 D g A) {o n d : String} {cf : ClassId} {k : Class} {i : Nat} {f : Field} (h : s.fieldFound? o n d = some (cf, k, i, f)) : ∃ k', s0.fieldFound? o n d = some (cf, k', i, f) := by
  obtain ⟨k', h1, -⟩ := State.fieldFound?_setVm (s := s) X.2.2.1.1.alike.symm h
  exact ⟨k', h1⟩
theorem hr_X.fc (X : hr_X p s m args c cc nL own s0 D g A) {C : String} {k : ClassId} (h : s.vm.findClass C = some k) : s0.vm.findClass C = some k := by
  rw [← X.2.2.1.1.alike.findClass]
  exact h
theorem hr_X.fc' (X : hr_X p s m args c cc nL own s0 D g A) {C : String} {k : ClassId} (h : s0.vm.findClass C = some k) : s.vm.findClass C = some k := by
  rw [X.2.2.1.1.alike.findClass]
  exact h
set_option maxRecDepth 100000
theorem hr_okM : (Bundle.messageArmAtoms "java/lang/ArithmeticException" ["java/lang/RuntimeException", "java/lang/Exception"]).all hr_okw = true := by decide +kernel
theorem hr_okI : (Bundle.messageArmAtoms "java/lang/ArrayIndexOutOfBoundsException" ["java/lang/IndexOutOfBoundsException", "java/lang/RuntimeException", "java/lang/Exception"]).all hr_okw = true := by decide +kernel
theorem hr_okN : (Bundle.npeArmAtoms 8).all hr_okw = true := by decide +kernel
variable {lo n mc ms : Nat} {Qb : Outcome → Heap → Prop}
theorem hr_msg (X : hr_X p s m args c cc nL own s0 D g (hr_A lo n s.heap.size)) (hfl : l.flags = flags0) (hlk : meth.locks = false) (htab : c.exceptionTable.toList = []) {cls : String} {names : List String} {text : String} {nb : Nat} (hat : (Bundle.messageArmAtoms cls names).all hr_okw = true)
    (hcls : Bundle.fit cls = true) (hnames : ∀ n ∈ names, Bundle.fit n = true) (hsoe : (cls == "java/lang/StackOverflowError") = false) (hoom : (cls == "java/lang/OutOfMemoryError") = false) (htext : (text == notModelled) = false) (hnb : (stringBytes (stringToUtf16 text)).size = nb) (hnb2 : nb ≤ 100) (hnl : names.length ≤ 3) (hsize : ls.size = nL) (hW : (rest.map fun v => v.category).sum ≤ 8)
    (hR : 8 ≤ R.frames ∧ 10300 ≤ R.locals) (hc : 3 ≤ R.cells ∧ nb + 10 ≤ R.slots) (hmc : 3 ≤ mc) (hms : nb + 10 ≤ ms)
    (hQ : ∀ H1 : Heap, (∀ q : Nat, q < s.heap.size → H1[q]? = s.heap[q]?) → hr_xo s0 cls (s.heap.size + 2) (.ref (s.heap.size + 2)) H1 → s.heap.size + 2 < H1.size → Qb (.threw (s.heap.size + 2)) H1) {T : State} (hT : T.heap = s.heap) (Xs : Stand p l e R s m args below meth c T [] 0 0) {gg : JFrame} (step : ∀ target, Steps p.tables e below ((T.setTop (F0 m pc ls rest)).pushFrame (.throwNew cls (some text) none)) target → Steps p.tables e below (T.setTop gg) target) :
    ∃ t, Steps p.tables e below (T.setTop gg) t ∧ hr_Q below (hr_Qc lo n Qb) args s mc ms (hr_A lo n s.heap.size) t := by
  have htr : e.platform.stackTraces = false := Launch.traces_off hfl Xs.admits
  obtain ⟨U, hsteps, hrun, hend, hW', ⟨n', hn', hsame⟩, cb, cs, ce, hcb, hcs, hce, KB, KS, KE⟩ := Xs.messageArmCells X.ex htr (cls := cls) (names := names) (text := text) hcls hnames hsoe hoom (X.atoms hat) (fun x hx => by cases hx) htext
    (by rw [hnb, Xs.admits.platform]; show ¬ nb > 2147483645; omega) (by rw [hnb, Xs.admits.platform]; show ¬ nb * 1 > 536870912; omega)
    (g := F0 m pc ls rest) rfl (by rw [X.ml]; exact hsize) rfl rfl (by rw [htab]; intro x hx; cases hx) (by omega) (by have h9 : 2 * (F0 m pc ls rest).monitorRoom + (rest.map fun v => v.category).sum ≤ 8 := lv_room hW; have := hR.2; show 2 * (F0 m pc ls rest).monitorRoom + (rest.map fun v => v.category).sum + 10240 ≤ R.locals; omega) (by omega) (by omega) (by rw [hnb]; omega) hlk
  rw [hnb] at hn'
  have hsame := hsame.mono (c' := mc) (n' := ms) (by omega) (by omega)
  have hq9 := hr_same0 hsame
  have hq : ∀ q : Nat, q < s.heap.size → U.heap[q]? = s.heap[q]? := hq9
  rw [hT] at hce hend KE
  obtain ⟨cf, k, i, f, hf, hs⟩ := KE.cause
  obtain ⟨k', hf'⟩ := X.ff hf
  have hle : s.heap.size ≤ U.heap.size := hsame.2.1
  exact ⟨U, step U hsteps, _, hrun, hend, ⟨hQ U.heap hq ⟨ce, hce, KE.monitor, KE.vm, X.fc KE.cls, cf, k', i, f, hf', hs⟩ (hr_lt hce), hle, fun q h1 _ => hq q h1⟩, [], ⟨hW', hsame⟩, fun x hx => by cases hx⟩
/-- / by zero -/
theorem hr_idiv0 (X : hr_X p s m args c cc nL own s0 D g (hr_A lo n s.heap.size)) (hfl : l.flags = flags0) (hlk : meth.locks = false) (htab : c.exceptionTable.toList = []) (hsize : ls.size = nL) (hW : (rest.map fun v => v.category).sum ≤ 8) (hR : 8 ≤ R.frames ∧ 10300 ≤ R.locals) (hc : 3 ≤ R.cells ∧ 44 ≤ R.slots) (hmc : 3 ≤ mc) (hms : 44 ≤ ms)
    (hQ : ∀ H1 : Heap, (∀ q : Nat, q < s.heap.size → H1[q]? = s.heap[q]?) → hr_xo s0 "java/lang/ArithmeticException" (s.heap.size + 2) (.ref (s.heap.size + 2)) H1 → s.heap.size + 2 < H1.size → Qb (.threw (s.heap.size + 2)) H1) {x : Int32} (hdg : decode cc pc = .ok (.idiv, 1)) :
    W p l e R s m args below meth c s.heap [] 0 0 (hr_Q below (hr_Qc lo n Qb) args s mc ms (hr_A lo n s.heap.size)) (F0 m pc ls (.int 0 :: .int x :: rest)) := by
  intro T hT Xs
  exact hr_msg (mc := mc) (ms := ms) (pc := pc) (rest := rest) (text := "/ by zero") (nb := 9) X hfl hlk htab hr_okM (by decide +kernel) (by decide +kernel) (by decide) (by decide) (by decide) (by decide +kernel) (by decide) (by decide) hsize hW hR ⟨hc.1, by omega⟩ hmc (by omega) hQ hT Xs (Xs.idivZero X.ex (g := F0 m pc ls (.int 0 :: .int x :: rest)) rfl rfl (by rw [X.by]; exact hdg))
/-- an index outside -/
theorem hr_aout (X : hr_X p s m args c cc nL own s0 D g (hr_A lo n s.heap.size)) (hfl : l.flags = flags0) (hlk : meth.locks = false) (htab : c.exceptionTable.toList = []) (hsize : ls.size = nL) (hW : (rest.map fun v => v.category).sum ≤ 8) (hR : 8 ≤ R.frames ∧ 10300 ≤ R.locals) (hc : 3 ≤ R.cells ∧ 44 ≤ R.slots) (hmc : 3 ≤ mc) (hms : 44 ≤ ms)
    (hQ : ∀ H1 : Heap, (∀ q : Nat, q < s.heap.size → H1[q]? = s.heap[q]?) → hr_xo s0 "java/lang/ArrayIndexOutOfBoundsException" (s.heap.size + 2) (.ref (s.heap.size + 2)) H1 → s.heap.size + 2 < H1.size → Qb (.threw (s.heap.size + 2)) H1)
    {t0 : Nat} {cA : ClassId} {E : String} (ht : (hr_ty g)[t0]? = some (cA, .object E)) {f : Nat → Value} (ha : s.heap[a]? = some (arrV cA 4 f)) {i : Int32} (hi : i = 4 ∨ i = 5) (hdg : decode cc pc = .ok (.aaload, 1)) :
    W p l e R s m args below meth c s.heap [] 0 0 (hr_Q below (hr_Qc lo n Qb) args s mc ms (hr_A lo n s.heap.size)) (F0 m pc ls (.int i :: .ref a :: rest)) := by
  intro T hT Xs
  have hsz : (arrV cA 4 f).slots.size = 4 := arrV_size _ _ _
  rcases hi with rfl | rfl
  · have step := Xs.aaloadOut X.ex (a := a) (cell := arrV cA 4 f) (ty := .object E) (by rw [hT]; exact ha) ((X.K.2 t0 _ ht).1 4 f) (Or.inr (by rw [hsz]; decide)) (g := F0 m pc ls (.int 4 :: .ref a :: rest)) rfl rfl (by rw [X.by]; exact hdg)
    rw [hsz] at step
    exact hr_msg (mc := mc) (ms := ms) (pc := pc) (rest := rest) (nb := 34) X hfl hlk htab hr_okI (by decide +kernel) (by decide +kernel) (by decide) (by decide) (by decide +kernel) (by decide +kernel) (by decide) (by decide) hsize hW hR ⟨hc.1, by omega⟩ hmc (by omega) hQ hT Xs step
  · have step := Xs.aaloadOut X.ex (a := a) (cell := arrV cA 4 f) (ty := .object E) (by rw [hT]; exact ha) ((X.K.2 t0 _ ht).1 4 f) (Or.inr (by rw [hsz]; decide)) (g := F0 m pc ls (.int 5 :: .ref a :: rest)) rfl rfl (by rw [X.by]; exact hdg)
    rw [hsz] at step
    exact hr_msg (mc := mc) (ms := ms) (pc := pc) (rest := rest) (nb := 34) X hfl hlk htab hr_okI (by decide +kernel) (by decide +kernel) (by decide) (by decide) (by decide +kernel) (by decide +kernel) (by decide) (by decide) hsize hW hR ⟨hc.1, by omega⟩ hmc (by omega) hQ hT Xs step
/-- a null's field -/
theorem hr_npe (X : hr_X p s m args c cc nL own s0 D g (hr_A lo n s.heap.size)) (hfl : l.flags = flags0) (hlk : meth.locks = false) (htab : c.exceptionTable.toList = []) (hsize : ls.size = nL) (hW : (rest.map fun v => v.category).sum ≤ 8) (hR : 8 ≤ R.frames ∧ 10300 ≤ R.locals) (hc : 3 ≤ R.cells ∧ 44 ≤ R.slots) (hmc : 3 ≤ mc) (hms : 44 ≤ ms)
    (hQ : ∀ H1 : Heap, (∀ q : Nat, q < s.heap.size → H1[q]? = s.heap[q]?) → hr_xo s0 "java/lang/NullPointerException" s.heap.size (.ref s.heap.size) H1 → s.heap.size < H1.size → Qb (.threw s.heap.size) H1)
    {ci N k : Nat} {C : String} {Tt : u_T} {ty : Nat → FieldType} (I : hr_In ci C Tt N ty) (hk : k < N) {index : Nat} {host : String} (hl : Cond.fieldLinkNest own index (Tt k).1 (Tt k).2.1 (Tt k).2.2.1 host ∈ lw_tbl) (hdg : decode cc pc = .ok (.getfield index, 3)) :
    W p l e R s m args below meth c s.heap [] 0 0 (hr_Q below (hr_Qc lo n Qb) args s mc ms (hr_A lo n s.heap.size)) (F0 m pc ls (.null :: rest)) := by
  intro T hT Xs
  obtain ⟨hSl, hfc, kC, hkC, hkind⟩ := X.K.1 ci _ I.1
  obtain ⟨cf, kf, fi, f, hi, hsl⟩ := hSl k hk
  obtain ⟨vm', Y, step⟩ := Xs.getfieldNullNest X.ex X.ow (X.nf hl) hi (u_facts hfc hkC (u_lays X.ts I.2.1 hk) hi).1 (g := F0 m pc ls (.null :: rest)) rfl rfl (by rw [X.by]; exact hdg)
  have htr : e.platform.stackTraces = false := Launch.traces_off hfl Xs.admits
  obtain ⟨U, hsteps, hrun, hend, hW', hsame, ce, hce, KE⟩ := Y.npeArm X.ex htr (n := 8) (X.atoms hr_okN) (fun x hx => by cases hx) (g := F0 m pc ls rest) rfl (by rw [X.ml]; exact hsize) rfl rfl (by rw [htab]; intro x hx; cases hx) hR.1
    (by have h9 : 2 * (F0 m pc ls rest).monitorRoom + (rest.map fun v => v.category).sum ≤ 8 := lv_room hW; have := hR.2; show 2 * (F0 m pc ls rest).monitorRoom + (rest.map fun v => v.category).sum + 10240 ≤ R.locals; omega) (by omega) (by omega) hlk
  have hsame := hsame.mono (c' := mc) (n' := ms) (by omega) (by omega)
  have hq9 := hr_same0 hsame
  have hq : ∀ q : Nat, q < s.heap.size → U.heap[q]? = s.heap[q]? := hq9
  have hT2 : (T.setVm vm').heap = s.heap := hT
  rw [hT2] at hce hend KE
  obtain ⟨cf, k, i, f, hf, hs⟩ := KE.cause
  obtain ⟨k', hf'⟩ := X.ff hf
  have hle : s.heap.size ≤ U.heap.size := hsame.2.1
  exact ⟨U, step U hsteps, _, hrun, hend, ⟨hQ U.heap hq ⟨ce, hce, KE.monitor, KE.vm, X.fc KE.cls, cf, k', i, f, hf', hs⟩ (hr_lt hce), hle, fun q h1 _ => hq q h1⟩, [], ⟨hW', hsame⟩, fun x hx => by cases hx⟩
end HRVT
end
section
/-! THE EXCEPTIONS' CONSTRUCTORS -/
section HRXC
/-- its monitor is free -/
def hr_mf (a : Nat) (H : Heap) : Prop := ∀ cell : Cell, H[a]? = some cell → cell.monitor = {}
theorem hr_mf.kept {a : Nat} {H H1 : Heap} (h : hr_mf a H) (e : H1[a]? = H[a]?) : hr_mf a H1 := fun cell hc => h cell (e.symm.trans hc)
variable {p : Program} {l : Launch} {e : Env} {R : Room} {s : State} {m : MethodId} {args : Array Value} {below : List Frame} {meth : Method} {c : Code} {H : Heap} {locs : List Loc} {cells slots : Nat} {Q : State → Prop}
variable {cc : ByteArray} {nL : Nat} {own : String} {s0 : State} {D : va_G} {g : ClassId × ClassId × ClassId} {A : Nat → Prop} {pc : Nat} {ls : Array Slot} {rest : List Value} {a : Nat}
theorem hr_putM {ci N : Nat} {C : String} {T : u_T} {ty : Nat → FieldType} (X : hr_X p s m args c cc nL own s0 D g A) (I : hr_In ci C T N ty) {fs : List Value} (hO : t_OB a (D.1 ci) N (D.2 ci) H (vp_V fs)) (hM : hr_mf a H) (hS : va_S A s.heap H locs) (haA : A a) (k : Nat) (hk : k < N) (hkl : k < fs.length) (hfin : (T k).2.2.2 = false) {v : Value} (hn : narrow (ty k) v = v) (hfit : fits (ty k) v = true) {index : Nat} (hl : Cond.fieldLink own index (T k).1 (T k).2.1 (T k).2.2.1 ∈ lw_all) (hdg : decode cc pc = .ok (.putfield index, 3))
    (kk : ∀ (H1 : Heap) (locs1 : List Loc), t_OB a (D.1 ci) N (D.2 ci) H1 (vp_V (fs.set k v)) → hr_mf a H1 → H1.size = H.size → (∀ q : Nat, q ≠ a → H1[q]? = H[q]?) → va_S A s.heap H1 locs1 → W p l e R s m args below meth c H1 locs1 cells slots Q (F0 m (pc + 3) ls rest)) : W p l e R s m args below meth c H locs cells slots Q (F0 m pc ls (v :: .ref a :: rest)) := by
  have hap := va_apart (own := own) X.ts I.2.1 ty I.2.2.1 I.2.2.2 X.K I.1
  obtain ⟨cell, q1, q2, q3, q4⟩ := hO
  obtain ⟨hSl, hfc, kC, hkC, hkind⟩ := X.K.1 ci _ I.1
  obtain ⟨cf, kf, fi, f, hi, hsl⟩ := hSl k hk
  have hlay := X.ts _ (I.2.1 _ (u_in_lay hk))
  unfold u_lay at hlay
  rw [if_neg (by rw [hfin]; decide)] at hlay
  have hst := (u_facts hfc hkC (u_lays X.ts I.2.1 hk) hi).1
  have h6 := u_store hfc hkC hkind hlay hi (I.2.2.1 k hk) hn hfit
  refine W.putK X.ex X.by (f := f) ⟨X.ow, X.ts _ hl, ⟨_, _, _, hi⟩, hst⟩ (by rw [q2]; exact h6) q1 q3 (by rw [hsl]; exact k2_hasslot (q4 k hk)) rfl rfl hdg fun H' e1 e2 e3 => ?_
  rw [hsl] at e1 ⊢
  exact kk H' _ (t_OB.to (V := updV (vp_V fs) k v) ⟨_, e1, q2, q3, t_set q4 hap hk v⟩ (fun j _ => vp_updV_set hkl v j)) (fun cell' hc' => by cases hc'.symm.trans e1; exact hM cell q1) e2 e3 (hS.put e2 e3 haA)
theorem hr_putFM {ci N : Nat} {C : String} {T : u_T} {ty : Nat → FieldType} (X : hr_X p s m args c cc nL own s0 D g A) (I : hr_In ci C T N ty) {fs : List Value} (hO : t_OB a (D.1 ci) N (D.2 ci) H (vp_V fs)) (hM : hr_mf a H) (hS : va_S A s.heap H locs) (haA : A a) (k : Nat) (hk : k < N) (hkl : k < fs.length) (hfin : (T k).2.2.2 = true) (hin2 : meth.name = "<init>") (hdecl : (T k).1 = own) {v : Value} (hn : narrow (ty k) v = v) (hfit : fits (ty k) v = true) {index : Nat} (hl : Cond.fieldLink own index (T k).1 (T k).2.1 (T k).2.2.1 ∈ lw_all) (hdg : decode cc pc = .ok (.putfield index, 3))
    (kk : ∀ (H1 : Heap) (locs1 : List Loc), t_OB a (D.1 ci) N (D.2 ci) H1 (vp_V (fs.set k v)) → hr_mf a H1 → H1.size = H.size → (∀ q : Nat, q ≠ a → H1[q]? = H[q]?) → va_S A s.heap H1 locs1 → W p l e R s m args below meth c H1 locs1 cells slots Q (F0 m (pc + 3) ls rest)) : W p l e R s m args below meth c H locs cells slots Q (F0 m pc ls (v :: .ref a :: rest)) := by
  have hap := va_apart (own := own) X.ts I.2.1 ty I.2.2.1 I.2.2.2 X.K I.1
  obtain ⟨cell, q1, q2, q3, q4⟩ := hO
  obtain ⟨hSl, hfc, kC, hkC, hkind⟩ := X.K.1 ci _ I.1
  obtain ⟨cf, kf, fi, f, hi, hsl⟩ := hSl k hk
  have hlay := X.ts _ (I.2.1 _ (u_in_lay hk))
  unfold u_lay at hlay
  rw [if_pos hfin] at hlay
  have hst := (u_facts hfc hkC (u_lays X.ts I.2.1 hk) hi).1
  have hcf : m.cls = cf := by
    obtain ⟨_, _, c', _, _, _, -, -, hf', -, -, -, hown2, -⟩ := Cond.laysFinal_spec hlay
    have e1 : c' = cf := by have := hi.symm.trans hf'; simp at this; exact this.1.symm
    rw [hdecl] at hown2
    rw [← e1]; exact Option.some.inj (X.ow.symm.trans hown2)
  have h6 := u_fits hfc hkC hkind (Or.inr hlay) hi (I.2.2.1 k hk) hn hfit
  refine W.putFinK X.ex X.by X.ow (X.ts _ hl) hi hst hcf hin2 (by rw [q2]; exact h6) q1 q3 (by rw [hsl]; exact k2_hasslot (q4 k hk)) rfl rfl hdg fun H' e1 e2 e3 => ?_
  rw [hsl] at e1 ⊢
  exact kk H' _ (t_OB.to (V := updV (vp_V fs) k v) ⟨_, e1, q2, q3, t_set q4 hap hk v⟩ (fun j _ => vp_updV_set hkl v j)) (fun cell' hc' => by cases hc'.symm.trans e1; exact hM cell q1) e2 e3 (hS.put e2 e3 haA)
/-- a static of Throwable's: null or some reference -/
theorem hr_X.zq (X : hr_X p s m args c cc nL own s0 D g A) {C n d : String} (hl : Cond.laysStatic C n d ∈ lw_tbl) (hini : Cond.initialized C ∈ lw_all) (hr : Cond.isRef (.static C n d) ∈ hr_rw) : ∃ v : Value, (v = .null ∨ ∃ t : Nat, v = .ref t) ∧ va_Z C n d v A s s.heap := by
  obtain ⟨-, ⟨b0, hz, hgv, -⟩, hB, hA, -⟩ := X
  have h1 : va_Zq C n d A s0 s0.heap := va_Zqof (hz _ hl) (hz _ (lw_all_tbl hini)) (hr_r0 _ _ hgv _ hr) (fun a ha h => by have := hA a h; omega)
  have h2 := (h1.moved hB.1.alike).kept (H1 := s.heap) (fun a ha _ => hB.2 a ha)
  rcases h2 with h | ⟨t, h⟩
  · exact ⟨_, Or.inl rfl, h⟩
  · exact ⟨_, Or.inr ⟨t, rfl⟩, h⟩
theorem hr_X.str (X : hr_X p s m args c cc nL own s0 D g A) {o : String} {k : Nat} {tx : String} (h : Cond.stringRef o k tx ∈ lw_tbl) (hx : ∀ (args : Array Value) (s : State), (Jvm.Cond.and given_1 narrow_1).before args s = true → (Cond.exactly (.string o k) "java/lang/String").before args s = true) : ∃ q, vk_R o k tx q s := by
  obtain ⟨-, ⟨b0, hz, hgv, -⟩, hB, -, -⟩ := X
  obtain ⟨a, c, cA, kA, q1, q2, q3, q4, q5, q6, -⟩ := Cond.exactly_spec (args := #[Value.ref b0]) (first := s0) (o := none) (s := s0) (idx := []) (t := .string o k) (cls := "java/lang/String") (hx _ _ hgv)
  exact ⟨a, vk_R.warm hB.1 (vk_R.of (hz _ h) q1)⟩
theorem hr_rv {v : Value} (hv : v = .null ∨ ∃ t : Nat, v = .ref t) {ty : FieldType} (h1 : narrow ty .null = .null) (h2 : ∀ t, narrow ty (.ref t) = .ref t) (h3 : fits ty .null = true) (h4 : ∀ t, fits ty (.ref t) = true) : narrow ty v = v ∧ fits ty v = true := by
  rcases hv with rfl | ⟨t, rfl⟩
  · exact ⟨h1, h3⟩
  · exact ⟨h2 t, h4 t⟩
theorem hr_sx4 (args : Array Value) (s : State) (h : (Jvm.Cond.and given_1 narrow_1).before args s = true) : (Cond.exactly (.string "HoistRacks$Stuck" 1) "java/lang/String").before args s = true := flat_of_before _ h _ (by decide +kernel)
theorem hr_sx5 (args : Array Value) (s : State) (h : (Jvm.Cond.and given_1 narrow_1).before args s = true) : (Cond.exactly (.string "HoistRacks$Spill" 1) "java/lang/String").before args s = true := flat_of_before _ h _ (by decide +kernel)
theorem hr_sx6 (args : Array Value) (s : State) (h : (Jvm.Cond.and given_1 narrow_1).before args s = true) : (Cond.exactly (.string "HoistRacks$Weary" 1) "java/lang/String").before args s = true := flat_of_before _ h _ (by decide +kernel)
end HRXC
section HRXD
theorem v_J0 : hr_I "java/lang/Exception" 16 yJ0_init_3 5 4 := ⟨q312, q313, q30, ⟨_, q314⟩, rfl, by decide +kernel, by decide +kernel, by decide +kernel⟩
theorem v_J14 : hr_I "HoistRacks$Stuck" 3 yJ1_init_3 5 4 := ⟨q309, q310, q31, ⟨_, q311⟩, rfl, by decide +kernel, by decide +kernel, by decide +kernel⟩
theorem v_J15 : hr_I "HoistRacks$Spill" 3 yJ1_init_3 5 4 := ⟨q368, q310, q31, ⟨_, q311⟩, rfl, by decide +kernel, by decide +kernel, by decide +kernel⟩
theorem v_J16 : hr_I "HoistRacks$Weary" 3 yJ1_init_3 5 4 := ⟨q341, q310, q31, ⟨_, q311⟩, rfl, by decide +kernel, by decide +kernel, by decide +kernel⟩
set_option maxHeartbeats 4000000 in
theorem k_J0_4 (l : Launch) {s0 : State} {D : va_G} {g : ClassId × ClassId × ClassId} (Z : hr_Z s0 D g) {a : Nat} (h0 : s0.heap.size ≤ a) (q : Nat) {sz : Nat} : hr_C l yJ0_init_3 (ws_ yJ0_init_3 cJ0_init_3 5 none) (hr_L 1 0 0) s0 a 1 sz [.ref a, .ref q, .null, .int 0, .int 0] (fun H => t_OB a (D.1 4) 7 (D.2 4) H (vp_V [.null, .null, .null, .null, .null, .int 0, .int 0]) ∧ hr_mf a H) (hr_Qv (fun H => t_OB a (D.1 4) 7 (D.2 4) H (vp_V [.null, .null, .null, .ref q, .null, .int 0, .int 0]) ∧ hr_mf a H)) 0 0 := by
  refine hr_meth (by decide) (Nat.le_of_ble_eq_true rfl) Z h0 ?_
  intro p e s m0 below meth c ls X hr hlk hnm htab hadm hsz hC hl
  obtain ⟨hO, hM⟩ := hC
  have hS := hr_S0 (s := s) (lo := a) (n := 1)
  have haA : hr_A a 1 s.heap.size a := Or.inl ⟨Nat.le_refl a, Nat.lt_succ_self a⟩
  have hl : lv_has ls 5 [(0, _), (1, _), (2, _), (3, _), (4, _)] := hl
  refine lv_aload_n X.ex X.by dJ0_init_3_0 rfl (lv_at hl 0 rfl) ?_
  refine hr_obj X q171 hl.1 ⟨Nat.le_of_ble_eq_true rfl, Nat.le_of_ble_eq_true rfl⟩ (Nat.le_of_ble_eq_true rfl) dJ0_init_3_1 ?_
  refine lv_aload_n X.ex X.by dJ0_init_3_4 rfl (lv_at hl 0 rfl) ?_
  refine lv_aload_n X.ex X.by dJ0_init_3_5 rfl (lv_at hl 0 rfl) ?_
  refine hr_putM X hr_i4 hO hM hS haA 0 (by decide) (Nat.le_of_ble_eq_true rfl) rfl rfl rfl q206 dJ0_init_3_6 (fun H locs hO hM zz oq hS => ?_)
  refine lv_aload_n X.ex X.by dJ0_init_3_9 rfl (lv_at hl 0 rfl) ?_
  obtain ⟨v1, hv1, hZ1⟩ := X.zq q173 q30 (by decide +kernel)
  refine va_gets X.ex X.by hZ1 hS X.ow (X.ts _ q172) (fun x h => h) dJ0_init_3_10 ?_
  have hr1 := hr_rv hv1 (ty := tyX4 1) rfl (fun _ => rfl) rfl (fun _ => rfl)
  refine hr_putM X hr_i4 hO hM hS haA 1 (by decide) (Nat.le_of_ble_eq_true rfl) rfl hr1.1 hr1.2 q207 dJ0_init_3_13 (fun H locs hO hM zz oq hS => ?_)
  refine lv_aload_n X.ex X.by dJ0_init_3_16 rfl (lv_at hl 0 rfl) ?_
  obtain ⟨v2, hv2, hZ2⟩ := X.zq q175 q30 (by decide +kernel)
  refine va_gets X.ex X.by hZ2 hS X.ow (X.ts _ q174) (fun x h => h) dJ0_init_3_17 ?_
  have hr2 := hr_rv hv2 (ty := tyX4 2) rfl (fun _ => rfl) rfl (fun _ => rfl)
  refine hr_putM X hr_i4 hO hM hS haA 2 (by decide) (Nat.le_of_ble_eq_true rfl) rfl hr2.1 hr2.2 q208 dJ0_init_3_20 (fun H locs hO hM zz oq hS => ?_)
  refine lv_iload X.ex X.by dJ0_init_3_23 (lv_at hl 4 rfl) ?_
  refine lv_if_eq (tgt := 36) X.ex X.by dJ0_init_3_25 (by decide) (fun _ => ?_) (fun h => absurd rfl h)
  refine lv_aload_n X.ex X.by dJ0_init_3_36 rfl (lv_at hl 0 rfl) ?_
  refine lv_null X.ex X.by dJ0_init_3_37 ?_
  refine hr_putM X hr_i4 hO hM hS haA 1 (by decide) (Nat.le_of_ble_eq_true rfl) rfl rfl rfl q207 dJ0_init_3_38 (fun H locs hO hM zz oq hS => ?_)
  refine lv_aload_n X.ex X.by dJ0_init_3_41 rfl (lv_at hl 0 rfl) ?_
  refine lv_aload_n X.ex X.by dJ0_init_3_42 rfl (lv_at hl 1 rfl) ?_
  refine hr_putM X hr_i4 hO hM hS haA 3 (by decide) (Nat.le_of_ble_eq_true rfl) rfl rfl rfl q205 dJ0_init_3_43 (fun H locs hO hM zz oq hS => ?_)
  refine lv_aload_n X.ex X.by dJ0_init_3_46 rfl (lv_at hl 0 rfl) ?_
  refine lv_aload_nN X.ex X.by dJ0_init_3_47 rfl (lv_at hl 2 rfl) ?_
  refine hr_putM X hr_i4 hO hM hS haA 0 (by decide) (Nat.le_of_ble_eq_true rfl) rfl rfl rfl q206 dJ0_init_3_48 (fun H locs hO hM zz oq hS => ?_)
  refine lv_iload_n X.ex X.by dJ0_init_3_51 rfl (lv_at hl 3 rfl) ?_
  refine lv_if_ne (tgt := 60) X.ex X.by dJ0_init_3_52 (by decide) (fun h => absurd rfl h) (fun _ => ?_)
  refine lv_aload_n X.ex X.by dJ0_init_3_55 rfl (lv_at hl 0 rfl) ?_
  refine lv_null X.ex X.by dJ0_init_3_56 ?_
  refine hr_putM X hr_i4 hO hM hS haA 2 (by decide) (Nat.le_of_ble_eq_true rfl) rfl rfl rfl q208 dJ0_init_3_57 (fun H locs hO hM zz oq hS => ?_)
  exact hr_vret X hr hlk hS ⟨rfl, hO, hM⟩ (Nat.le_refl _) (Nat.le_refl _) dJ0_init_3_60
set_option maxHeartbeats 4000000 in
theorem k_J1_4 (l : Launch) {s0 : State} {D : va_G} {g : ClassId × ClassId × ClassId} (Z : hr_Z s0 D g) {a : Nat} (h0 : s0.heap.size ≤ a) (q : Nat) {sz : Nat} : hr_C l yJ1_init_3 (ws_ yJ1_init_3 cJ1_init_3 5 none) (hr_L 2 0 0) s0 a 1 sz [.ref a, .ref q, .null, .int 0, .int 0] (fun H => t_OB a (D.1 4) 7 (D.2 4) H (vp_V [.null, .null, .null, .null, .null, .int 0, .int 0]) ∧ hr_mf a H) (hr_Qv (fun H => t_OB a (D.1 4) 7 (D.2 4) H (vp_V [.null, .null, .null, .ref q, .null, .int 0, .int 0]) ∧ hr_mf a H)) 0 0 := by
  refine hr_meth (by decide) (Nat.le_of_ble_eq_true rfl) Z h0 ?_
  intro p e s m0 below meth c ls X hr hlk hnm htab hadm hsz hC hl
  obtain ⟨hO, hM⟩ := hC
  have hS := hr_S0 (s := s) (lo := a) (n := 1)
  have haA : hr_A a 1 s.heap.size a := Or.inl ⟨Nat.le_refl a, Nat.lt_succ_self a⟩
  have hl : lv_has ls 5 [(0, _), (1, _), (2, _), (3, _), (4, _)] := hl
  refine lv_aload_n X.ex X.by dJ1_init_3_0 rfl (lv_at hl 0 rfl) ?_
  refine lv_aload_n X.ex X.by dJ1_init_3_1 rfl (lv_at hl 1 rfl) ?_
  refine lv_aload_nN X.ex X.by dJ1_init_3_2 rfl (lv_at hl 2 rfl) ?_
  refine lv_iload_n X.ex X.by dJ1_init_3_3 rfl (lv_at hl 3 rfl) ?_
  refine lv_iload X.ex X.by dJ1_init_3_4 (lv_at hl 4 rfl) ?_
  refine hr_callIv (As := [.ref q, .null, .int 0, .int 0]) (lo := a) (n := 1) (mc := 0) (ms := 0) X (k_J0_4 l X.2.1 h0 q) v_J0 (lw_meth q314) hS (fun q hq1 hq2 => Or.inl ⟨hq1, hq2⟩) ⟨hO, hM⟩ rfl rfl (hr_lR (by decide) ⟨Nat.le_of_ble_eq_true rfl, Nat.le_of_ble_eq_true rfl⟩) hl.1 rfl (Nat.le_of_ble_eq_true rfl) ⟨Nat.le_of_ble_eq_true rfl, Nat.le_of_ble_eq_true rfl⟩ dJ1_init_3_6 (fun H locs hP hS hk => ?_)
  exact hr_vret X hr hlk hS ⟨rfl, hP⟩ (Nat.le_refl _) (Nat.le_refl _) dJ1_init_3_9
set_option maxHeartbeats 4000000 in
theorem k_X4_init (l : Launch) {s0 : State} {D : va_G} {g : ClassId × ClassId × ClassId} (Z : hr_Z s0 D g) {a : Nat} (h0 : s0.heap.size ≤ a) (n : Int32) {sz : Nat} : hr_C l yX4_init (ws_ yX4_init cX4_init 2 none) (hr_L 3 0 0) s0 a 1 sz [.ref a, .int n] (fun H => t_OB a (D.1 4) 7 (D.2 4) H (vp_V [.null, .null, .null, .null, .null, .int 0, .int 0]) ∧ hr_mf a H) (hr_Qv (fun H => ∃ q, t_OB a (D.1 4) 7 (D.2 4) H (vp_V [.null, .null, .null, .ref q, .null, .int 0, .int n]) ∧ hr_mf a H)) 0 0 := by
  refine hr_meth (by decide) (Nat.le_of_ble_eq_true rfl) Z h0 ?_
  intro p e s m0 below meth c ls X hr hlk hnm htab hadm hsz hC hl
  obtain ⟨hO, hM⟩ := hC
  have hS := hr_S0 (s := s) (lo := a) (n := 1)
  have haA : hr_A a 1 s.heap.size a := Or.inl ⟨Nat.le_refl a, Nat.lt_succ_self a⟩
  have hl : lv_has ls 2 [(0, _), (1, _)] := hl
  refine lv_aload_n X.ex X.by dX4_init_0 rfl (lv_at hl 0 rfl) ?_
  obtain ⟨q, hq⟩ := X.str q308 hr_sx4
  refine va_ldcS X.ex X.by X.ow hq dX4_init_1 ?_
  refine lv_null X.ex X.by dX4_init_3 ?_
  refine lv_iconst (v := 0) X.ex X.by dX4_init_4 (by decide) ?_
  refine lv_iconst (v := 0) X.ex X.by dX4_init_5 (by decide) ?_
  refine hr_callIv (As := [.ref q, .null, .int 0, .int 0]) (lo := a) (n := 1) (mc := 0) (ms := 0) X (k_J1_4 l X.2.1 h0 q) v_J14 (lw_meth q311) hS (fun q hq1 hq2 => Or.inl ⟨hq1, hq2⟩) ⟨hO, hM⟩ rfl rfl (hr_lR (by decide) ⟨Nat.le_of_ble_eq_true rfl, Nat.le_of_ble_eq_true rfl⟩) hl.1 rfl (Nat.le_of_ble_eq_true rfl) ⟨Nat.le_of_ble_eq_true rfl, Nat.le_of_ble_eq_true rfl⟩ dX4_init_6 (fun H locs hP hS hk => ?_)
  obtain ⟨hO, hM⟩ := hP
  refine lv_aload_n X.ex X.by dX4_init_9 rfl (lv_at hl 0 rfl) ?_
  refine lv_iload_n X.ex X.by dX4_init_10 rfl (lv_at hl 1 rfl) ?_
  refine hr_putFM X hr_i4 hO hM hS haA 6 (by decide) (Nat.le_of_ble_eq_true rfl) rfl hnm rfl rfl rfl q315 dX4_init_11 (fun H locs hO hM zz oq hS => ?_)
  exact hr_vret X hr hlk hS ⟨rfl, q, hO, hM⟩ (Nat.le_refl _) (Nat.le_refl _) dX4_init_14
set_option maxHeartbeats 4000000 in
theorem k_J0_5 (l : Launch) {s0 : State} {D : va_G} {g : ClassId × ClassId × ClassId} (Z : hr_Z s0 D g) {a : Nat} (h0 : s0.heap.size ≤ a) (q : Nat) (x : Nat) {sz : Nat} : hr_C l yJ0_init_3 (ws_ yJ0_init_3 cJ0_init_3 5 none) (hr_L 1 0 0) s0 a 1 sz [.ref a, .ref q, .ref x, .int 0, .int 0] (fun H => t_OB a (D.1 5) 7 (D.2 5) H (vp_V [.null, .null, .null, .null, .null, .int 0, .int 0]) ∧ hr_mf a H) (hr_Qv (fun H => t_OB a (D.1 5) 7 (D.2 5) H (vp_V [.ref x, .null, .null, .ref q, .null, .int 0, .int 0]) ∧ hr_mf a H)) 0 0 := by
  refine hr_meth (by decide) (Nat.le_of_ble_eq_true rfl) Z h0 ?_
  intro p e s m0 below meth c ls X hr hlk hnm htab hadm hsz hC hl
  obtain ⟨hO, hM⟩ := hC
  have hS := hr_S0 (s := s) (lo := a) (n := 1)
  have haA : hr_A a 1 s.heap.size a := Or.inl ⟨Nat.le_refl a, Nat.lt_succ_self a⟩
  have hl : lv_has ls 5 [(0, _), (1, _), (2, _), (3, _), (4, _)] := hl
  refine lv_aload_n X.ex X.by dJ0_init_3_0 rfl (lv_at hl 0 rfl) ?_
  refine hr_obj X q171 hl.1 ⟨Nat.le_of_ble_eq_true rfl, Nat.le_of_ble_eq_true rfl⟩ (Nat.le_of_ble_eq_true rfl) dJ0_init_3_1 ?_
  refine lv_aload_n X.ex X.by dJ0_init_3_4 rfl (lv_at hl 0 rfl) ?_
  refine lv_aload_n X.ex X.by dJ0_init_3_5 rfl (lv_at hl 0 rfl) ?_
  refine hr_putM X hr_i5 hO hM hS haA 0 (by decide) (Nat.le_of_ble_eq_true rfl) rfl rfl rfl q206 dJ0_init_3_6 (fun H locs hO hM zz oq hS => ?_)
  refine lv_aload_n X.ex X.by dJ0_init_3_9 rfl (lv_at hl 0 rfl) ?_
  obtain ⟨v1, hv1, hZ1⟩ := X.zq q173 q30 (by decide +kernel)
  refine va_gets X.ex X.by hZ1 hS X.ow (X.ts _ q172) (fun x h => h) dJ0_init_3_10 ?_
  have hr1 := hr_rv hv1 (ty := tyX6 1) rfl (fun _ => rfl) rfl (fun _ => rfl)
  refine hr_putM X hr_i5 hO hM hS haA 1 (by decide) (Nat.le_of_ble_eq_true rfl) rfl hr1.1 hr1.2 q207 dJ0_init_3_13 (fun H locs hO hM zz oq hS => ?_)
  refine lv_aload_n X.ex X.by dJ0_init_3_16 rfl (lv_at hl 0 rfl) ?_
  obtain ⟨v2, hv2, hZ2⟩ := X.zq q175 q30 (by decide +kernel)
  refine va_gets X.ex X.by hZ2 hS X.ow (X.ts _ q174) (fun x h => h) dJ0_init_3_17 ?_
  have hr2 := hr_rv hv2 (ty := tyX6 2) rfl (fun _ => rfl) rfl (fun _ => rfl)
  refine hr_putM X hr_i5 hO hM hS haA 2 (by decide) (Nat.le_of_ble_eq_true rfl) rfl hr2.1 hr2.2 q208 dJ0_init_3_20 (fun H locs hO hM zz oq hS => ?_)
  refine lv_iload X.ex X.by dJ0_init_3_23 (lv_at hl 4 rfl) ?_
  refine lv_if_eq (tgt := 36) X.ex X.by dJ0_init_3_25 (by decide) (fun _ => ?_) (fun h => absurd rfl h)
  refine lv_aload_n X.ex X.by dJ0_init_3_36 rfl (lv_at hl 0 rfl) ?_
  refine lv_null X.ex X.by dJ0_init_3_37 ?_
  refine hr_putM X hr_i5 hO hM hS haA 1 (by decide) (Nat.le_of_ble_eq_true rfl) rfl rfl rfl q207 dJ0_init_3_38 (fun H locs hO hM zz oq hS => ?_)
  refine lv_aload_n X.ex X.by dJ0_init_3_41 rfl (lv_at hl 0 rfl) ?_
  refine lv_aload_n X.ex X.by dJ0_init_3_42 rfl (lv_at hl 1 rfl) ?_
  refine hr_putM X hr_i5 hO hM hS haA 3 (by decide) (Nat.le_of_ble_eq_true rfl) rfl rfl rfl q205 dJ0_init_3_43 (fun H locs hO hM zz oq hS => ?_)
  refine lv_aload_n X.ex X.by dJ0_init_3_46 rfl (lv_at hl 0 rfl) ?_
  refine lv_aload_n X.ex X.by dJ0_init_3_47 rfl (lv_at hl 2 rfl) ?_
  refine hr_putM X hr_i5 hO hM hS haA 0 (by decide) (Nat.le_of_ble_eq_true rfl) rfl rfl rfl q206 dJ0_init_3_48 (fun H locs hO hM zz oq hS => ?_)
  refine lv_iload_n X.ex X.by dJ0_init_3_51 rfl (lv_at hl 3 rfl) ?_
  refine lv_if_ne (tgt := 60) X.ex X.by dJ0_init_3_52 (by decide) (fun h => absurd rfl h) (fun _ => ?_)
  refine lv_aload_n X.ex X.by dJ0_init_3_55 rfl (lv_at hl 0 rfl) ?_
  refine lv_null X.ex X.by dJ0_init_3_56 ?_
  refine hr_putM X hr_i5 hO hM hS haA 2 (by decide) (Nat.le_of_ble_eq_true rfl) rfl rfl rfl q208 dJ0_init_3_57 (fun H locs hO hM zz oq hS => ?_)
  exact hr_vret X hr hlk hS ⟨rfl, hO, hM⟩ (Nat.le_refl _) (Nat.le_refl _) dJ0_init_3_60
set_option maxHeartbeats 4000000 in
theorem k_J1_5 (l : Launch) {s0 : State} {D : va_G} {g : ClassId × ClassId × ClassId} (Z : hr_Z s0 D g) {a : Nat} (h0 : s0.heap.size ≤ a) (q : Nat) (x : Nat) {sz : Nat} : hr_C l yJ1_init_3 (ws_ yJ1_init_3 cJ1_init_3 5 none) (hr_L 2 0 0) s0 a 1 sz [.ref a, .ref q, .ref x, .int 0, .int 0] (fun H => t_OB a (D.1 5) 7 (D.2 5) H (vp_V [.null, .null, .null, .null, .null, .int 0, .int 0]) ∧ hr_mf a H) (hr_Qv (fun H => t_OB a (D.1 5) 7 (D.2 5) H (vp_V [.ref x, .null, .null, .ref q, .null, .int 0, .int 0]) ∧ hr_mf a H)) 0 0 := by
  refine hr_meth (by decide) (Nat.le_of_ble_eq_true rfl) Z h0 ?_
  intro p e s m0 below meth c ls X hr hlk hnm htab hadm hsz hC hl
  obtain ⟨hO, hM⟩ := hC
  have hS := hr_S0 (s := s) (lo := a) (n := 1)
  have haA : hr_A a 1 s.heap.size a := Or.inl ⟨Nat.le_refl a, Nat.lt_succ_self a⟩
  have hl : lv_has ls 5 [(0, _), (1, _), (2, _), (3, _), (4, _)] := hl
  refine lv_aload_n X.ex X.by dJ1_init_3_0 rfl (lv_at hl 0 rfl) ?_
  refine lv_aload_n X.ex X.by dJ1_init_3_1 rfl (lv_at hl 1 rfl) ?_
  refine lv_aload_n X.ex X.by dJ1_init_3_2 rfl (lv_at hl 2 rfl) ?_
  refine lv_iload_n X.ex X.by dJ1_init_3_3 rfl (lv_at hl 3 rfl) ?_
  refine lv_iload X.ex X.by dJ1_init_3_4 (lv_at hl 4 rfl) ?_
  refine hr_callIv (As := [.ref q, .ref x, .int 0, .int 0]) (lo := a) (n := 1) (mc := 0) (ms := 0) X (k_J0_5 l X.2.1 h0 q x) v_J0 (lw_meth q314) hS (fun q hq1 hq2 => Or.inl ⟨hq1, hq2⟩) ⟨hO, hM⟩ rfl rfl (hr_lR (by decide) ⟨Nat.le_of_ble_eq_true rfl, Nat.le_of_ble_eq_true rfl⟩) hl.1 rfl (Nat.le_of_ble_eq_true rfl) ⟨Nat.le_of_ble_eq_true rfl, Nat.le_of_ble_eq_true rfl⟩ dJ1_init_3_6 (fun H locs hP hS hk => ?_)
  exact hr_vret X hr hlk hS ⟨rfl, hP⟩ (Nat.le_refl _) (Nat.le_refl _) dJ1_init_3_9
set_option maxHeartbeats 4000000 in
theorem k_X6_init (l : Launch) {s0 : State} {D : va_G} {g : ClassId × ClassId × ClassId} (Z : hr_Z s0 D g) {a : Nat} (h0 : s0.heap.size ≤ a) (n : Int32) (x : Nat) {sz : Nat} : hr_C l yX6_init (ws_ yX6_init cX6_init 3 none) (hr_L 3 0 0) s0 a 1 sz [.ref a, .int n, .ref x] (fun H => t_OB a (D.1 5) 7 (D.2 5) H (vp_V [.null, .null, .null, .null, .null, .int 0, .int 0]) ∧ hr_mf a H) (hr_Qv (fun H => ∃ q, t_OB a (D.1 5) 7 (D.2 5) H (vp_V [.ref x, .null, .null, .ref q, .null, .int 0, .int n]) ∧ hr_mf a H)) 0 0 := by
  refine hr_meth (by decide) (Nat.le_of_ble_eq_true rfl) Z h0 ?_
  intro p e s m0 below meth c ls X hr hlk hnm htab hadm hsz hC hl
  obtain ⟨hO, hM⟩ := hC
  have hS := hr_S0 (s := s) (lo := a) (n := 1)
  have haA : hr_A a 1 s.heap.size a := Or.inl ⟨Nat.le_refl a, Nat.lt_succ_self a⟩
  have hl : lv_has ls 3 [(0, _), (1, _), (2, _)] := hl
  refine lv_aload_n X.ex X.by dX6_init_0 rfl (lv_at hl 0 rfl) ?_
  obtain ⟨q, hq⟩ := X.str q367 hr_sx5
  refine va_ldcS X.ex X.by X.ow hq dX6_init_1 ?_
  refine lv_aload_n X.ex X.by dX6_init_3 rfl (lv_at hl 2 rfl) ?_
  refine lv_iconst (v := 0) X.ex X.by dX6_init_4 (by decide) ?_
  refine lv_iconst (v := 0) X.ex X.by dX6_init_5 (by decide) ?_
  refine hr_callIv (As := [.ref q, .ref x, .int 0, .int 0]) (lo := a) (n := 1) (mc := 0) (ms := 0) X (k_J1_5 l X.2.1 h0 q x) v_J15 (lw_meth q311) hS (fun q hq1 hq2 => Or.inl ⟨hq1, hq2⟩) ⟨hO, hM⟩ rfl rfl (hr_lR (by decide) ⟨Nat.le_of_ble_eq_true rfl, Nat.le_of_ble_eq_true rfl⟩) hl.1 rfl (Nat.le_of_ble_eq_true rfl) ⟨Nat.le_of_ble_eq_true rfl, Nat.le_of_ble_eq_true rfl⟩ dX6_init_6 (fun H locs hP hS hk => ?_)
  obtain ⟨hO, hM⟩ := hP
  refine lv_aload_n X.ex X.by dX6_init_9 rfl (lv_at hl 0 rfl) ?_
  refine lv_iload_n X.ex X.by dX6_init_10 rfl (lv_at hl 1 rfl) ?_
  refine hr_putFM X hr_i5 hO hM hS haA 6 (by decide) (Nat.le_of_ble_eq_true rfl) rfl hnm rfl rfl rfl q369 dX6_init_11 (fun H locs hO hM zz oq hS => ?_)
  exact hr_vret X hr hlk hS ⟨rfl, q, hO, hM⟩ (Nat.le_refl _) (Nat.le_refl _) dX6_init_14
set_option maxHeartbeats 4000000 in
theorem k_J0_6 (l : Launch) {s0 : State} {D : va_G} {g : ClassId × ClassId × ClassId} (Z : hr_Z s0 D g) {a : Nat} (h0 : s0.heap.size ≤ a) (q : Nat) {sz : Nat} : hr_C l yJ0_init_3 (ws_ yJ0_init_3 cJ0_init_3 5 none) (hr_L 1 0 0) s0 a 1 sz [.ref a, .ref q, .null, .int 0, .int 0] (fun H => t_OB a (D.1 6) 6 (D.2 6) H (vp_V [.null, .null, .null, .null, .null, .int 0]) ∧ hr_mf a H) (hr_Qv (fun H => t_OB a (D.1 6) 6 (D.2 6) H (vp_V [.null, .null, .null, .ref q, .null, .int 0]) ∧ hr_mf a H)) 0 0 := by
  refine hr_meth (by decide) (Nat.le_of_ble_eq_true rfl) Z h0 ?_
  intro p e s m0 below meth c ls X hr hlk hnm htab hadm hsz hC hl
  obtain ⟨hO, hM⟩ := hC
  have hS := hr_S0 (s := s) (lo := a) (n := 1)
  have haA : hr_A a 1 s.heap.size a := Or.inl ⟨Nat.le_refl a, Nat.lt_succ_self a⟩
  have hl : lv_has ls 5 [(0, _), (1, _), (2, _), (3, _), (4, _)] := hl
  refine lv_aload_n X.ex X.by dJ0_init_3_0 rfl (lv_at hl 0 rfl) ?_
  refine hr_obj X q171 hl.1 ⟨Nat.le_of_ble_eq_true rfl, Nat.le_of_ble_eq_true rfl⟩ (Nat.le_of_ble_eq_true rfl) dJ0_init_3_1 ?_
  refine lv_aload_n X.ex X.by dJ0_init_3_4 rfl (lv_at hl 0 rfl) ?_
  refine lv_aload_n X.ex X.by dJ0_init_3_5 rfl (lv_at hl 0 rfl) ?_
  refine hr_putM X hr_i6 hO hM hS haA 0 (by decide) (Nat.le_of_ble_eq_true rfl) rfl rfl rfl q206 dJ0_init_3_6 (fun H locs hO hM zz oq hS => ?_)
  refine lv_aload_n X.ex X.by dJ0_init_3_9 rfl (lv_at hl 0 rfl) ?_
  obtain ⟨v1, hv1, hZ1⟩ := X.zq q173 q30 (by decide +kernel)
  refine va_gets X.ex X.by hZ1 hS X.ow (X.ts _ q172) (fun x h => h) dJ0_init_3_10 ?_
  have hr1 := hr_rv hv1 (ty := tyX5 1) rfl (fun _ => rfl) rfl (fun _ => rfl)
  refine hr_putM X hr_i6 hO hM hS haA 1 (by decide) (Nat.le_of_ble_eq_true rfl) rfl hr1.1 hr1.2 q207 dJ0_init_3_13 (fun H locs hO hM zz oq hS => ?_)
  refine lv_aload_n X.ex X.by dJ0_init_3_16 rfl (lv_at hl 0 rfl) ?_
  obtain ⟨v2, hv2, hZ2⟩ := X.zq q175 q30 (by decide +kernel)
  refine va_gets X.ex X.by hZ2 hS X.ow (X.ts _ q174) (fun x h => h) dJ0_init_3_17 ?_
  have hr2 := hr_rv hv2 (ty := tyX5 2) rfl (fun _ => rfl) rfl (fun _ => rfl)
  refine hr_putM X hr_i6 hO hM hS haA 2 (by decide) (Nat.le_of_ble_eq_true rfl) rfl hr2.1 hr2.2 q208 dJ0_init_3_20 (fun H locs hO hM zz oq hS => ?_)
  refine lv_iload X.ex X.by dJ0_init_3_23 (lv_at hl 4 rfl) ?_
  refine lv_if_eq (tgt := 36) X.ex X.by dJ0_init_3_25 (by decide) (fun _ => ?_) (fun h => absurd rfl h)
  refine lv_aload_n X.ex X.by dJ0_init_3_36 rfl (lv_at hl 0 rfl) ?_
  refine lv_null X.ex X.by dJ0_init_3_37 ?_
  refine hr_putM X hr_i6 hO hM hS haA 1 (by decide) (Nat.le_of_ble_eq_true rfl) rfl rfl rfl q207 dJ0_init_3_38 (fun H locs hO hM zz oq hS => ?_)
  refine lv_aload_n X.ex X.by dJ0_init_3_41 rfl (lv_at hl 0 rfl) ?_
  refine lv_aload_n X.ex X.by dJ0_init_3_42 rfl (lv_at hl 1 rfl) ?_
  refine hr_putM X hr_i6 hO hM hS haA 3 (by decide) (Nat.le_of_ble_eq_true rfl) rfl rfl rfl q205 dJ0_init_3_43 (fun H locs hO hM zz oq hS => ?_)
  refine lv_aload_n X.ex X.by dJ0_init_3_46 rfl (lv_at hl 0 rfl) ?_
  refine lv_aload_nN X.ex X.by dJ0_init_3_47 rfl (lv_at hl 2 rfl) ?_
  refine hr_putM X hr_i6 hO hM hS haA 0 (by decide) (Nat.le_of_ble_eq_true rfl) rfl rfl rfl q206 dJ0_init_3_48 (fun H locs hO hM zz oq hS => ?_)
  refine lv_iload_n X.ex X.by dJ0_init_3_51 rfl (lv_at hl 3 rfl) ?_
  refine lv_if_ne (tgt := 60) X.ex X.by dJ0_init_3_52 (by decide) (fun h => absurd rfl h) (fun _ => ?_)
  refine lv_aload_n X.ex X.by dJ0_init_3_55 rfl (lv_at hl 0 rfl) ?_
  refine lv_null X.ex X.by dJ0_init_3_56 ?_
  refine hr_putM X hr_i6 hO hM hS haA 2 (by decide) (Nat.le_of_ble_eq_true rfl) rfl rfl rfl q208 dJ0_init_3_57 (fun H locs hO hM zz oq hS => ?_)
  exact hr_vret X hr hlk hS ⟨rfl, hO, hM⟩ (Nat.le_refl _) (Nat.le_refl _) dJ0_init_3_60
set_option maxHeartbeats 4000000 in
theorem k_J1_6 (l : Launch) {s0 : State} {D : va_G} {g : ClassId × ClassId × ClassId} (Z : hr_Z s0 D g) {a : Nat} (h0 : s0.heap.size ≤ a) (q : Nat) {sz : Nat} : hr_C l yJ1_init_3 (ws_ yJ1_init_3 cJ1_init_3 5 none) (hr_L 2 0 0) s0 a 1 sz [.ref a, .ref q, .null, .int 0, .int 0] (fun H => t_OB a (D.1 6) 6 (D.2 6) H (vp_V [.null, .null, .null, .null, .null, .int 0]) ∧ hr_mf a H) (hr_Qv (fun H => t_OB a (D.1 6) 6 (D.2 6) H (vp_V [.null, .null, .null, .ref q, .null, .int 0]) ∧ hr_mf a H)) 0 0 := by
  refine hr_meth (by decide) (Nat.le_of_ble_eq_true rfl) Z h0 ?_
  intro p e s m0 below meth c ls X hr hlk hnm htab hadm hsz hC hl
  obtain ⟨hO, hM⟩ := hC
  have hS := hr_S0 (s := s) (lo := a) (n := 1)
  have haA : hr_A a 1 s.heap.size a := Or.inl ⟨Nat.le_refl a, Nat.lt_succ_self a⟩
  have hl : lv_has ls 5 [(0, _), (1, _), (2, _), (3, _), (4, _)] := hl
  refine lv_aload_n X.ex X.by dJ1_init_3_0 rfl (lv_at hl 0 rfl) ?_
  refine lv_aload_n X.ex X.by dJ1_init_3_1 rfl (lv_at hl 1 rfl) ?_
  refine lv_aload_nN X.ex X.by dJ1_init_3_2 rfl (lv_at hl 2 rfl) ?_
  refine lv_iload_n X.ex X.by dJ1_init_3_3 rfl (lv_at hl 3 rfl) ?_
  refine lv_iload X.ex X.by dJ1_init_3_4 (lv_at hl 4 rfl) ?_
  refine hr_callIv (As := [.ref q, .null, .int 0, .int 0]) (lo := a) (n := 1) (mc := 0) (ms := 0) X (k_J0_6 l X.2.1 h0 q) v_J0 (lw_meth q314) hS (fun q hq1 hq2 => Or.inl ⟨hq1, hq2⟩) ⟨hO, hM⟩ rfl rfl (hr_lR (by decide) ⟨Nat.le_of_ble_eq_true rfl, Nat.le_of_ble_eq_true rfl⟩) hl.1 rfl (Nat.le_of_ble_eq_true rfl) ⟨Nat.le_of_ble_eq_true rfl, Nat.le_of_ble_eq_true rfl⟩ dJ1_init_3_6 (fun H locs hP hS hk => ?_)
  exact hr_vret X hr hlk hS ⟨rfl, hP⟩ (Nat.le_refl _) (Nat.le_refl _) dJ1_init_3_9
set_option maxHeartbeats 4000000 in
theorem k_X5_init (l : Launch) {s0 : State} {D : va_G} {g : ClassId × ClassId × ClassId} (Z : hr_Z s0 D g) {a : Nat} (h0 : s0.heap.size ≤ a)  {sz : Nat} : hr_C l yX5_init (ws_ yX5_init cX5_init 1 none) (hr_L 3 0 0) s0 a 1 sz [.ref a] (fun H => t_OB a (D.1 6) 6 (D.2 6) H (vp_V [.null, .null, .null, .null, .null, .int 0]) ∧ hr_mf a H) (hr_Qv (fun H => ∃ q, t_OB a (D.1 6) 6 (D.2 6) H (vp_V [.null, .null, .null, .ref q, .null, .int 0]) ∧ hr_mf a H)) 0 0 := by
  refine hr_meth (by decide) (Nat.le_of_ble_eq_true rfl) Z h0 ?_
  intro p e s m0 below meth c ls X hr hlk hnm htab hadm hsz hC hl
  obtain ⟨hO, hM⟩ := hC
  have hS := hr_S0 (s := s) (lo := a) (n := 1)
  have haA : hr_A a 1 s.heap.size a := Or.inl ⟨Nat.le_refl a, Nat.lt_succ_self a⟩
  have hl : lv_has ls 1 [(0, _)] := hl
  refine lv_aload_n X.ex X.by dX5_init_0 rfl (lv_at hl 0 rfl) ?_
  obtain ⟨q, hq⟩ := X.str q340 hr_sx6
  refine va_ldcS X.ex X.by X.ow hq dX5_init_1 ?_
  refine lv_null X.ex X.by dX5_init_3 ?_
  refine lv_iconst (v := 0) X.ex X.by dX5_init_4 (by decide) ?_
  refine lv_iconst (v := 0) X.ex X.by dX5_init_5 (by decide) ?_
  refine hr_callIv (As := [.ref q, .null, .int 0, .int 0]) (lo := a) (n := 1) (mc := 0) (ms := 0) X (k_J1_6 l X.2.1 h0 q) v_J16 (lw_meth q311) hS (fun q hq1 hq2 => Or.inl ⟨hq1, hq2⟩) ⟨hO, hM⟩ rfl rfl (hr_lR (by decide) ⟨Nat.le_of_ble_eq_true rfl, Nat.le_of_ble_eq_true rfl⟩) hl.1 rfl (Nat.le_of_ble_eq_true rfl) ⟨Nat.le_of_ble_eq_true rfl, Nat.le_of_ble_eq_true rfl⟩ dX5_init_6 (fun H locs hP hS hk => ?_)
  obtain ⟨hO, hM⟩ := hP
  exact hr_vret X hr hlk hS ⟨rfl, q, hO, hM⟩ (Nat.le_refl _) (Nat.le_refl _) dX5_init_9
end HRXD
end
section
/-! getCause(): a synchronized method; its contract, and its call -/
section HRGC
/-- a contract of a synchronized method, out of the walk of its body: the monitor is entered, and left again -/
theorem hr_ofSync {l : Launch} {y : MethodName} {ws ws' : List Cond} {rm : Room} {Pc : Array Value → State → Prop} {Qc : Array Value → State → Outcome → State → Prop} {mc ms : Nat} {free : Addr → Prop} {cc : ByteArray} {maxL : Nat} {ret : Option FieldType}
    (hy : plainName y.cls = true) (hw : ws = Cond.codeSync y cc maxL ret :: ws') (hin : Cond.instanceMethod y ∈ ws) (hrecv : ∀ (args : Array Value) (s : State), Pc args s → ∃ (a : Addr) (cell : Cell), args[0]? = some (.ref a) ∧ s.heap[a]? = some cell ∧ cell.monitor = {})
    (body : ∀ (p : Program) (e : Env) (s : State) (m : MethodId) (args : Array Value) (below : List Frame) (meth : Method) (c : Code) (a : Addr) (cell : Cell) (s₁ : State), p.tables.exec = Jvm.exec → c.code = cc → c.maxLocals = maxL → meth.sig.returnType = ret → meth.locks = true → s.methodNamed? y = some m → (∀ w ∈ ws, w.before args s = true) → Pc args s → args[0]? = some (.ref a) → s.heap[a]? = some cell → cell.monitor = {} → s₁.heap = (s.setCell a (cell.withEntry s.cur)).heap → s₁.vm = s.vm →
      Stand p l e rm (s.setCell a (cell.withEntry s.cur)) m args below meth c s₁ [] 0 0 →
      ∃ t o, Steps p.tables e below (s₁.setTop (entryFrameSync m args maxL a)) t ∧ t.status = .running ∧ Ended t below o ∧ Qc args s o t ∧ ∃ L, hr_FE s t L mc ms ∧ ∀ q ∈ L, free q.base) : hr_M l y ws rm Pc Qc mc ms free := by
  intro p e ha hc hk s m args below hf happ hP _
  obtain ⟨hrun, hable, halone, hname, hhears, hinit, hroom, hpre⟩ := (Spec.appliesLoose_iff hf).mp happ
  have hts := atoms_spec (ws := ws) hpre
  obtain ⟨meth, c, hmeth, hcode, hbytes, hlocals, hret, hlocks, -, -⟩ := Cond.codeSync_spec hname (hts _ (by rw [hw]; exact List.mem_cons_self))
  obtain ⟨mk, methM, hn9, hm9, hst, -⟩ := Cond.instanceMethod_spec (hts _ hin)
  cases hname.symm.trans hn9
  cases hmeth.symm.trans hm9
  obtain ⟨a, cell, harg, hcell, hmon⟩ := hrecv args s hP
  have hfree : cell.monitor.owner = none := by rw [hmon]
  have hcur := State.cur_lt_of_frames hf
  have hcur' : (s.setCell a (cell.withEntry s.cur)).cur < (s.setCell a (cell.withEntry s.cur)).threads.size := hcur
  have hf1 : ((s.setCell a (cell.withEntry s.cur)).setFrames (.java (entryFrameSync m args maxL a) :: below)).frames = .java (entryFrameSync m args maxL a) :: below :=
    State.frames_setFrames _ hcur'
  have ht1 := State.topJava?_of_frames hf1
  have hplain : ((s.setCell a (cell.withEntry s.cur)).setFrames (.java (entryFrameSync m args maxL a) :: below)).plainMethod m := by
    refine State.plainMethod.of_name ?_
    intro k hk
    obtain ⟨k', hk', hn⟩ := className_of_methodNamed hname
    cases (show s.vm.classes[m.cls]? = some k from hk).symm.trans hk'
    rw [hn]; exact hy
  have hAt : At ((s.setCell a (cell.withEntry s.cur)).setFrames (.java (entryFrameSync m args maxL a) :: below)) m c below :=
    ⟨by rw [ht1]; rfl, ⟨[], by rw [hf1]; rfl⟩, hrun, by simpa using hable, by simpa using halone,
      by rw [State.code?_eq]; simp [State.setFrames, State.setCell, hmeth, hcode], hplain⟩
  obtain ⟨t9, ht9, -⟩ := State.frames_cons hf
  have hX : Stand p l e rm (s.setCell a (cell.withEntry s.cur)) m args below meth c ((s.setCell a (cell.withEntry s.cur)).setFrames (.java (entryFrameSync m args maxL a) :: below)) [] 0 0 := by
    refine ⟨ha, hc, hk, hf, by rw [State.hasRoom_setCell (x := cell.withEntry s.cur) hcell rfl]; exact hroom, hhears, hmeth, hcode, hAt, by rw [hf1]; rfl, State.WarmedH.refl (s.setCell a (cell.withEntry s.cur)), by rw [State.stackLimits_setFrames], by rw [State.stackBytes_setFrames], ?_⟩
    exact (State.sameButNew.refl (s.setCell a (cell.withEntry s.cur)) (x := t9) ht9).setFrames (.java (entryFrameSync m args maxL a) :: below) hcur
  obtain ⟨s₂, o, hs, hr, he, hq, hL⟩ := body p e s m args below meth c a cell ((s.setCell a (cell.withEntry s.cur)).setFrames (.java (entryFrameSync m args maxL a) :: below)) (by cases p <;> rfl) hbytes hlocals hret hlocks hname hts hP harg hcell hmon rfl rfl hX
  have hstep : (stepThread p.tables e s).1 =
      ((s.setCell a (cell.withEntry s.cur)).setFrames (.java (entryFrameSync m args maxL a) :: below)).setTop (entryFrameSync m args maxL a) := by
    have hfull : e.platform.stackFull (s.setFrames below).me (s.setFrames below).frames (c.maxLocals + 2) = false := by
      obtain ⟨-, h1, -, h2⟩ := State.hasRoom_stack hroom
      rw [hf, List.length_cons] at h1
      rw [State.localsInUse_invoking hf hmeth hcode] at h2
      have hw := stackUse_le_stackWeight below
      rw [State.frames_setFrames _ hcur]
      simp only [vmFrameWords] at h2
      exact Platform.stackFull_eq_false (by rw [State.stackLimits_setFrames]; omega) (by rw [State.stackLimits_setFrames]; omega)
    rw [stepThread_invoking hf, (doInvoke_java_sync (s := s.setFrames below) (e := e) (meth := meth) (code := c) (a := a) (cell := cell) hmeth hcode hlocks hst harg hcell (Or.inl hfree) hfull).1,
      State.setTop_self ht1, hlocals]
    show (((s.setFrames below).setCell a (cell.withEntry s.cur)).setFrames (.java (entryFrameSync m args maxL a) :: ((s.setFrames below).setCell a (cell.withEntry s.cur)).frames)) = _
    rw [show ((s.setFrames below).setCell a (cell.withEntry s.cur)).frames = below from State.frames_setFrames _ hcur, State.setCell_setFrames, State.setFrames_setFrames]
  obtain ⟨n, hn, hw⟩ := Steps.head (tb := p.tables) (e := e) ⟨hrun, hable, halone⟩ ⟨[.invoking m args], hf, by simp, by simp⟩ (hstep ▸ hs)
  exact ⟨n, o, hw, hn ▸ hr, hn ▸ he, hn ▸ hq, hn ▸ hL⟩
abbrev cGC : ByteArray := prog_16_method_8_code
def yGC : MethodName := ⟨"java/lang/Throwable", "getCause", "()Ljava/lang/Throwable;"⟩
theorem dGC_0 : decode cGC 0 = .ok (.aload_n 0, 1) := by decide +kernel
theorem dGC_1 : decode cGC 1 = .ok (.getfield 7, 3) := by decide +kernel
theorem dGC_4 : decode cGC 4 = .ok (.aload_n 0, 1) := by decide +kernel
theorem dGC_5 : decode cGC 5 = .ok (.if_acmp .ne 7, 3) := by decide +kernel
theorem dGC_8 : decode cGC 8 = .ok (.aconst_null, 1) := by decide +kernel
theorem dGC_9 : decode cGC 9 = .ok (.goto 7, 3) := by decide +kernel
theorem dGC_12 : decode cGC 12 = .ok (.aload_n 0, 1) := by decide +kernel
theorem dGC_13 : decode cGC 13 = .ok (.getfield 7, 3) := by decide +kernel
theorem dGC_16 : decode cGC 16 = .ok (.areturn, 1) := by decide +kernel
/-- what getCause answers where the field holds v -/
def hr_cv (a : Nat) (v : Option Nat) : Option Nat := if v = some a then none else v
abbrev wsGC : List Cond := Cond.codeSync yGC cGC 1 (some (.object "java/lang/Throwable")) :: lw_all
theorem hr_GCl : GoodIn lw_all wsGC := by
  intro w hw
  rcases List.mem_cons.mp hw with e | e
  · rw [e]
    exact lw_self _ q388
  · exact lw_self _ e
set_option maxHeartbeats 4000000 in
theorem k_GC (l : Launch) {s0 : State} {C : String} {a : Nat} {v : Option Nat} {H : Heap} : hr_C l yGC wsGC (hr_L 1 0 0) s0 s0.heap.size 0 H.size [.ref a] (fun H' => H' = H ∧ hr_xo s0 C a (va_rf v) H') (fun o H' => o = .returned (some (va_rf (hr_cv a v))) ∧ H' = H) 0 0 := by
  refine hr_ofSync (cc := cGC) (maxL := 1) (ret := some (.object "java/lang/Throwable")) (by decide) rfl (List.mem_cons_of_mem _ q380) ?_ ?_
  · rintro args s ⟨rfl, -, -, -, cell, h1, h2, -⟩
    exact ⟨a, cell, rfl, h1, h2⟩
  · intro p e s m args below meth c a' cell s₁ hx hb hml hret hlk hnm hts hP harg hcell hmon hheap hvm X
    obtain ⟨rfl, hsz, hB, hH, cell', h1, h2, h3, h4, cf, kf, fi, f, hf, hs⟩ := hP
    have ea : a' = a := by cases harg; rfl
    subst ea
    cases hcell.symm.trans h1
    subst hH
    have hown : s.vm.findClass "java/lang/Throwable" = some m.cls := findClass_of_methodNamed hnm
    obtain ⟨k', hf2, -⟩ := State.fieldFound?_setVm hB.1.alike hf
    have hf2 : s.fieldFound? "java/lang/Throwable" "cause" "Ljava/lang/Throwable;" = some (cf, k', fi, f) := hf2
    obtain ⟨c9, t9, fi9, ff9, hff9, hst9⟩ : ∃ c9 t9 fi9 ff9, s.fieldFound? "java/lang/Throwable" "cause" "Ljava/lang/Throwable;" = some (c9, t9, fi9, ff9) ∧ ff9.isStatic = false := by
      obtain ⟨e1, e2, e3, e4, e5, e6, -, -, e7, e8, -⟩ := Cond.lays_spec (hts _ (List.mem_cons_of_mem _ q230))
      exact ⟨_, _, _, _, e7, e8⟩
    cases hf2.symm.trans hff9
    have hlink : (Cond.fieldLink "java/lang/Throwable" 7 "java/lang/Throwable" "cause" "Ljava/lang/Throwable;").before [Value.ref a'].toArray (s.setCell a' (cell.withEntry s.cur)) = true := word_at (s := s) (U := s.setCell a' (cell.withEntry s.cur)) (State.WarmedH.refl s) (Or.inl rfl) (hts _ (List.mem_cons_of_mem _ q206))
    have hlt : a' < s.heap.size := hr_lt hcell
    have hc1 : s₁.heap[a']? = some (cell.withEntry s.cur) := by
      rw [hheap]
      show (s.heap.setIfInBounds a' (cell.withEntry s.cur))[a']? = _
      simp [hlt]
    have hkn : (cell.withEntry s.cur).vm ≠ .unknown := by
      show cell.vm ≠ .unknown
      rw [h3]
      intro h; cases h
    have hsl : (cell.withEntry s.cur).slots[f.slot]? = some (va_rf v) := hs
    -- the end, from areturn on
    have fin : ∀ (T : State) (w : Option Nat), T.heap = s₁.heap → w = hr_cv a' v → Stand p l e (hr_L 1 0 0) (s.setCell a' (cell.withEntry s.cur)) m [Value.ref a'].toArray below meth c T [] 0 0 → ∃ t o, Steps p.tables e below (T.setTop { method := m, pc := 16, locals := argsToLocals [Value.ref a'].toArray 1, stack := [va_rf w], locked := some a', monitorRoom := 1 }) t ∧ t.status = .running ∧ Ended t below o ∧ ((o = .returned (some (va_rf (hr_cv a' v))) ∧ t.heap = s.heap) ∧ hr_kp s0.heap.size 0 s.heap t.heap) ∧ ∃ L, hr_FE s t L 0 0 ∧ ∀ q ∈ L, hr_A s0.heap.size 0 s.heap.size q.base := by
      intro T w hTh hw Y
      obtain ⟨fs, cellT, hT, hret9, hrun, hended, hW, hframe⟩ := Y.leaveSync hcell (Or.inl ⟨by rw [hmon], by rw [hmon]⟩) hlk (v := some (va_rf w)) (fun h => by rw [hret] at h; cases h)
      have hmeth' : T.vm.method? m = some meth := Y.method'
      have hcT : cellT = cell.withEntry s.cur := by
        have h9 : T.heap[a']? = some (cell.withEntry s.cur) := by rw [hTh]; exact hc1
        exact Option.some.inj (hT.symm.trans h9)
      have hleft : cellT.left = cell := by
        rw [hcT]
        exact Cell.left_withEntry s.cur (by rw [hmon]) (by rw [hmon])
      have hh : ((T.setCell a' cellT.left).setFrames fs).heap = s.heap := by
        show T.heap.setIfInBounds a' cellT.left = s.heap
        rw [hTh, hheap, hleft]
        show (s.heap.setIfInBounds a' (cell.withEntry s.cur)).setIfInBounds a' cell = s.heap
        rw [Array.setIfInBounds_setIfInBounds]
        apply Array.ext_getElem?
        intro i
        by_cases e : a' = i
        · subst e
          simp [Array.getElem?_setIfInBounds, hlt]
          exact Option.some.inj (hcell.symm.trans (Array.getElem?_eq_getElem hlt))
        · simp [Array.getElem?_setIfInBounds, e]
      refine ⟨(T.setCell a' cellT.left).setFrames fs, .returned (some (va_rf w)), ?_, hrun, hended, ⟨⟨by rw [hw], hh⟩, by rw [hh]; exact hr_kp.rf⟩, [], ⟨hW, hframe⟩, fun q hq => by cases hq⟩
      cases w with
      | none =>
        show Steps p.tables e below (T.setTop { method := m, pc := 16, locals := argsToLocals [Value.ref a'].toArray 1, stack := [Value.null], locked := some a', monitorRoom := 1 }) _
        jvm_step Y.here [Y.here.top, hx, hb, dGC_16, hmeth', hret]
        (try refine ⟨rfl, ?_⟩); (try refine ⟨rfl, ?_⟩)
        first | (intro acts; rw [show Value.null = va_rf none from rfl, hret9 _ acts rfl rfl rfl]) | rw [show Value.null = va_rf none from rfl, hret9 _ _ rfl rfl rfl]
        exact Steps.refl _
      | some w =>
        show Steps p.tables e below (T.setTop { method := m, pc := 16, locals := argsToLocals [Value.ref a'].toArray 1, stack := [Value.ref w], locked := some a', monitorRoom := 1 }) _
        jvm_step Y.here [Y.here.top, hx, hb, dGC_16, hmeth', hret]
        (try refine ⟨rfl, ?_⟩); (try refine ⟨rfl, ?_⟩)
        first | (intro acts; rw [show Value.ref w = va_rf (some w) from rfl, hret9 _ acts rfl rfl rfl]) | rw [show Value.ref w = va_rf (some w) from rfl, hret9 _ _ rfl rfl rfl]
        exact Steps.refl _
    have hl0 : (argsToLocals [Value.ref a'].toArray 1)[0]? = some (.val (.ref a')) := by rfl
    obtain ⟨vm1, X1, st1⟩ := X.getfield hx (own := "java/lang/Throwable") hown hlink hff9 hst9 hc1 hkn hsl (g := { method := m, pc := 1, locals := argsToLocals [Value.ref a'].toArray 1, stack := [.ref a'], locked := some a', monitorRoom := 1 }) rfl rfl (by rw [hb]; exact dGC_1)
    have hT1 : (s₁.setVm vm1).heap = s₁.heap := rfl
    generalize s₁.setVm vm1 = T1 at X1 st1 hT1
    obtain ⟨vm2, X2, st2⟩ := X1.getfield hx (own := "java/lang/Throwable") hown hlink hff9 hst9 (by rw [hT1]; exact hc1) hkn hsl (g := { method := m, pc := 13, locals := argsToLocals [Value.ref a'].toArray 1, stack := [.ref a'], locked := some a', monitorRoom := 1 }) rfl rfl (by rw [hb]; exact dGC_13)
    have hT2 : (T1.setVm vm2).heap = s₁.heap := hT1
    generalize T1.setVm vm2 = T2 at X2 st2 hT2
    by_cases hva : v = some a'
    · obtain ⟨t, o, r1, r2⟩ := fin T1 none hT1 (by unfold hr_cv; rw [if_pos hva]) X1
      refine ⟨t, o, ?_, r2⟩
      subst hva
      jvm_step X.here [X.here.top, hx, hb, dGC_0, hl0, Value.isRef]
      refine st1 t ?_
      show Steps p.tables e below (T1.setTop { method := m, pc := 4, locals := argsToLocals [Value.ref a'].toArray 1, stack := [Value.ref a'], locked := some a', monitorRoom := 1 }) t
      jvm_step X1.here [X1.here.top, hx, hb, dGC_4, hl0, Value.isRef]
      jvm_step X1.here [X1.here.top, hx, hb, dGC_5, Value.asRef?, Op.if_acmp.holds]
      jvm_step X1.here [X1.here.top, hx, hb, dGC_8]
      jvm_step X1.here [X1.here.top, hx, hb, dGC_9]
      exact r1
    · obtain ⟨t, o, r1, r2⟩ := fin T2 v hT2 (by unfold hr_cv; rw [if_neg hva]) X2
      refine ⟨t, o, ?_, r2⟩
      jvm_step X.here [X.here.top, hx, hb, dGC_0, hl0, Value.isRef]
      refine st1 t ?_
      cases v with
      | none =>
        show Steps p.tables e below (T1.setTop { method := m, pc := 4, locals := argsToLocals [Value.ref a'].toArray 1, stack := [Value.null], locked := some a', monitorRoom := 1 }) t
        jvm_step X1.here [X1.here.top, hx, hb, dGC_4, hl0, Value.isRef]
        jvm_step X1.here [X1.here.top, hx, hb, dGC_5, Value.asRef?, Op.if_acmp.holds]
        jvm_step X1.here [X1.here.top, hx, hb, dGC_12, hl0, Value.isRef]
        exact st2 t r1
      | some w =>
        have hne : ¬ w = a' := fun z => hva (by rw [z])
        show Steps p.tables e below (T1.setTop { method := m, pc := 4, locals := argsToLocals [Value.ref a'].toArray 1, stack := [Value.ref w], locked := some a', monitorRoom := 1 }) t
        jvm_step X1.here [X1.here.top, hx, hb, dGC_4, hl0, Value.isRef]
        jvm_step X1.here [X1.here.top, hx, hb, dGC_5, Value.asRef?, Op.if_acmp.holds, hne]
        jvm_step X1.here [X1.here.top, hx, hb, dGC_12, hl0, Value.isRef]
        exact st2 t r1
end HRGC
end
section
/-! FAILURES AS OBJECTS: what is thrown, by its first kind and the spills around it; making them; asking for a cause -/
section HRF
/-- the class of a first kind -/
def hr_xk (k : Nat) : Nat := match k with
  | 1 => 0
  | 2 => 3
  | 3 => 4
  | 4 => 5
  | 6 => 0
  | _ => 2
def hr_E (D : va_G) (s0 : State) (z k : Nat) : List Nat → Nat → Heap → Prop
  | [], a, H => z ≤ a ∧ hr_xo s0 (hr_xn (hr_xk k)) a (if hr_xk k = 0 ∨ hr_xk k = 2 then .null else .ref a) H ∧ (hr_xk k = 0 → ∃ fs, t_OB a (D.1 4) 7 (D.2 4) H (vp_V fs) ∧ fs[6]? = some (.int (nI k)))
  | r :: rs, a, H => z ≤ a ∧ ∃ a', hr_xo s0 (hr_xn 1) a (.ref a') H ∧ a' ≠ a ∧ (∃ fs, t_OB a (D.1 5) 7 (D.2 5) H (vp_V fs) ∧ fs[6]? = some (.int (nI r))) ∧ hr_E D s0 z k rs a' H
/-- the class of what is thrown -/
def hr_xz (x : hp_X) : Nat := match x.2 with
  | [] => hr_xk x.1
  | _ :: _ => 1
theorem hr_xk_lt (k : Nat) : hr_xk k < 6 := by
  unfold hr_xk
  split <;> decide
theorem hr_xz_lt (x : hp_X) : hr_xz x < 6 := by
  unfold hr_xz
  split
  · exact hr_xk_lt _
  · decide
theorem hr_xolt {s0 : State} {C : String} {a : Nat} {v : Value} {H : Heap} (h : hr_xo s0 C a v H) : a < H.size := by
  obtain ⟨cell, h1, -⟩ := h
  exact hr_lt h1
theorem hr_E.lt {D : va_G} {s0 : State} {z k : Nat} {rs : List Nat} {a : Nat} {H : Heap} (h : hr_E D s0 z k rs a H) : z ≤ a ∧ a < H.size := by
  cases rs with
  | nil => exact ⟨h.1, hr_xolt h.2.1⟩
  | cons r rs =>
    obtain ⟨h1, a', h2, -⟩ := h
    exact ⟨h1, hr_xolt h2⟩
theorem hr_E.kept {D : va_G} {s0 : State} {z k : Nat} {H H1 : Heap} (hk : ∀ q : Nat, z ≤ q → q < H.size → H1[q]? = H[q]?) : ∀ {rs : List Nat} {a : Nat}, hr_E D s0 z k rs a H → hr_E D s0 z k rs a H1 := by
  intro rs
  induction rs with
  | nil =>
    intro a h
    obtain ⟨h1, h2, h3⟩ := h
    have e := hk a h1 (hr_xolt h2)
    refine ⟨h1, h2.kept e, fun h4 => ?_⟩
    obtain ⟨fs, f1, f2⟩ := h3 h4
    exact ⟨fs, f1.kept e, f2⟩
  | cons r rs ih =>
    intro a h
    obtain ⟨h1, a', h2, h3, ⟨fs, f1, f2⟩, h4⟩ := h
    have e := hk a h1 (hr_xolt h2)
    exact ⟨h1, a', h2.kept e, h3, ⟨fs, f1.kept e, f2⟩, ih h4⟩
variable {p : Program} {l : Launch} {e : Env} {R : Room} {s : State} {m : MethodId} {args : Array Value} {below : List Frame} {meth : Method} {c : Code} {H : Heap} {locs : List Loc} {cells slots : Nat} {Q : State → Prop}
variable {cc : ByteArray} {nL : Nat} {own : String} {s0 : State} {D : va_G} {g : ClassId × ClassId × ClassId} {A : Nat → Prop} {pc : Nat} {ls : Array Slot} {rest : List Value} {a z k : Nat}
theorem hr_xo.xc (X : hr_X p s m args c cc nL own s0 D g A) {j : Nat} {v : Value} (h : hr_xo s0 (hr_xn j) a v H) : hr_xc s j a H := by
  obtain ⟨cell, h1, h2, h3, h4, -⟩ := h
  exact ⟨cell, h1, by rw [h3]; rfl, X.fc' h4⟩
theorem hr_E.xc (X : hr_X p s m args c cc nL own s0 D g A) {x : hp_X} (h : hr_E D s0 z x.1 x.2 a H) : hr_xc s (hr_xz x) a H := by
  obtain ⟨k, rs⟩ := x
  cases rs with
  | nil => exact hr_xo.xc X h.2.1
  | cons r rs =>
    obtain ⟨h1, a', h2, -⟩ := h
    exact hr_xo.xc X h2
/-- out of an object's fields -/
theorem hr_xo.of {ci N : Nat} {C : String} {T : u_T} {ty : Nat → FieldType} (X : hr_X p s m args c cc nL own s0 D g A) (I : hr_In ci C T N ty) (hN : 0 < N) (hT : T 0 = ("java/lang/Throwable", "cause", "Ljava/lang/Throwable;", false)) {fs : List Value} (hO : t_OB a (D.1 ci) N (D.2 ci) H (vp_V fs)) (hM : hr_mf a H) : hr_xo s0 C a (vp_V fs 0) H := by
  obtain ⟨cell, q1, q2, q3, q4⟩ := hO
  obtain ⟨hSl, hfc, kC, hkC, hkind⟩ := X.K.1 ci _ I.1
  obtain ⟨cf, kf, fi, f, hi, hsl⟩ := hSl 0 hN
  have hi : s.fieldFound? (T 0).1 (T 0).2.1 (T 0).2.2.1 = some (cf, kf, fi, f) := hi
  rw [hT] at hi
  obtain ⟨k', hf'⟩ := X.ff hi
  exact ⟨cell, q1, hM cell q1, q3, X.fc (by rw [q2]; exact hfc), cf, k', fi, f, hf', by rw [hsl]; exact q4 0 hN⟩
theorem hr_E.stuck (X : hr_X p s m args c cc nL own s0 D g A) (hz : z ≤ a) (hk : hr_xk k = 0) {v1 v2 v3 v4 v5 : Value} (hO : t_OB a (D.1 4) 7 (D.2 4) H (vp_V [.null, v1, v2, v3, v4, v5, .int (nI k)])) (hM : hr_mf a H) : hr_E D s0 z k [] a H := by
  refine ⟨hz, ?_, fun _ => ⟨_, hO, rfl⟩⟩
  rw [hk, if_pos (Or.inl rfl)]
  exact hr_xo.of X hr_i4 (by decide) rfl hO hM
theorem hr_E.weary (X : hr_X p s m args c cc nL own s0 D g A) (hz : z ≤ a) {v1 v2 v3 v4 v5 : Value} (hO : t_OB a (D.1 6) 6 (D.2 6) H (vp_V [.null, v1, v2, v3, v4, v5])) (hM : hr_mf a H) : hr_E D s0 z 7 [] a H := by
  refine ⟨hz, ?_, fun h => absurd h (by decide)⟩
  rw [if_pos (Or.inr (by decide : hr_xk 7 = 2))]
  exact hr_xo.of X hr_i6 (by decide) rfl hO hM
theorem hr_E.spill (X : hr_X p s m args c cc nL own s0 D g A) (hz : z ≤ a) {r : Nat} {rs : List Nat} {a' : Nat} {v1 v2 v3 v4 v5 : Value} (hO : t_OB a (D.1 5) 7 (D.2 5) H (vp_V [.ref a', v1, v2, v3, v4, v5, .int (nI r)])) (hM : hr_mf a H) (hE : hr_E D s0 z k rs a' H) (hne : a' ≠ a) : hr_E D s0 z k (r :: rs) a H :=
  ⟨hz, a', hr_xo.of X hr_i5 (by decide) rfl hO hM, hne, ⟨_, hO, rfl⟩, hE⟩
theorem hr_newM {ci N : Nat} {C : String} {T : u_T} {ty : Nat → FieldType} (X : hr_X p s m args c cc nL own s0 D g A) (I : hr_In ci C T N ty) (hS : va_S A s.heap H locs) {index : Nat} (hcl : Cond.classLink own index C ∈ lw_all) (hinst : Cond.instantiable C N ∈ lw_all) (hini : Cond.initialized C ∈ lw_all) {fs : List Value} (hfs : ∀ j, j < N → defaultValue (ty j) = vp_V fs j) (hcells : cells + 1 ≤ R.cells) (hslots : slots + N ≤ R.slots) (hdg : decode cc pc = .ok (.new index, 3))
    (kk : ∀ (a : Nat) (H1 : Heap), a = H.size → t_OB a (D.1 ci) N (D.2 ci) H1 (vp_V fs) → hr_mf a H1 → H1.size = H.size + 1 → (∀ q : Nat, q < H.size → H1[q]? = H[q]?) → va_S A s.heap H1 locs →
      W p l e R s m args below meth c H1 locs (cells + 1) (slots + N) Q (F0 m (pc + 3) ls (.ref a :: rest))) : W p l e R s m args below meth c H locs cells slots Q (F0 m pc ls rest) := by
  refine hr_new X I hcl hinst hini hfs hcells hslots hdg (fun H1 h1 hb h2 h3 => kk H.size H1 rfl h1 (fun cell hc => ?_) h2 h3 (hr_Sg hS h2 h3))
  obtain ⟨kC, hb⟩ := hb
  cases hc.symm.trans hb
  rfl
/-! asking for a cause -/
theorem hr_gsel {j : Nat} (hj : j < 6) : Cond.selects (hr_xn j) yGC yGC ∈ lw_all := by
  match j, hj with
  | 0, _ => exact q383
  | 1, _ => exact q382
  | 2, _ => exact q384
  | 3, _ => exact q385
  | 4, _ => exact q387
  | 5, _ => exact q386
theorem hr_cause (X : hr_X p s m args c cc nL RX0 s0 D g A) {j : Nat} (hj : j < 6) {v : Option Nat} (hO : hr_xo s0 (hr_xn j) a (va_rf v) H) (hS : va_S A s.heap H locs) (hR : 2 ≤ R.frames ∧ 80 ≤ R.locals) (hf : cells ≤ R.cells ∧ slots ≤ R.slots) (hsize : ls.size = nL) (hW : (rest.map fun v => v.category).sum ≤ 8) (hdg : decode cc pc = .ok (.invokevirtual 130, 3))
    (kk : ∀ locs1 : List Loc, va_S A s.heap H locs1 → W p l e R s m args below meth c H locs1 cells slots Q (F0 m (pc + 3) ls (va_rf (hr_cv a v) :: rest))) : W p l e R s m args below meth c H locs cells slots Q (F0 m pc ls (.ref a :: rest)) := by
  have hrun : hr_Run p l e R s m args below meth c H locs cells slots 0 0 (F0 m pc ls (.ref a :: rest)) rest (fun st o t => (o = .returned (some (va_rf (hr_cv a v))) ∧ t.heap = H) ∧ hr_kp s0.heap.size 0 st.heap t.heap) (hr_A s0.heap.size 0 H.size) := by
    have hb := X.by
    have hown := X.ow
    have hts := X.ts
    have hM := k_GC l (s0 := s0) (C := hr_xn j) (a := a) (v := v) (H := H)
    have hB := X.B hS
    obtain ⟨cellB, hcB, hoB, hclB⟩ := hO.xc X
    intro T hT Xs
    obtain ⟨mk, methM, hnamed, hmethM, hstM, habM⟩ := Cond.instanceMethod_spec (hts _ q380)
    obtain ⟨meth', cM, h1, hcM, -, hlM, -, -, -, hsigM⟩ := Cond.codeSync_spec hnamed (hts _ q388)
    cases hmethM.symm.trans h1
    obtain ⟨c2, r2, m2, q1, q2, q3, q4, kP, hkP, hkPi⟩ := Cond.selects_spec (hts _ (hr_gsel hj))
    cases hclB.symm.trans q1
    cases (State.methodFound?_of_named hnamed ⟨by decide +kernel, by decide +kernel⟩).symm.trans q2
    cases hnamed.symm.trans q3
    have hselP : selectMethod e.platform s.vm cellB.cls mk = .method mk := by rw [Launch.admits_selectMethod Xs.admits]; exact q4
    have hlen : ([] : List Value).length = methM.sig.parameters.length := by
      have v8 : (parseMethodDescriptor yGC.desc).map (fun d => d.parameters.length) = some 0 := by decide +kernel
      have hsigM : parseMethodDescriptor yGC.desc = some methM.sig := hsigM
      rw [hsigM] at v8
      exact (Option.some.inj v8).symm
    obtain ⟨vm₁, X₁, hstep₁⟩ := Xs.invokevirtual X.ex hown (hts _ q379) hnamed hmethM hstM hkP hkPi ⟨by decide +kernel, by decide +kernel⟩ (a := a) (cell := cellB) (by rw [hT]; exact hcB)
      (fun z h => by rw [h] at hoB; cases hoB) hselP hmethM habM hkP hkPi (g := F0 m pc ls (.ref a :: rest)) rfl (argsL := []) (rest := rest) hlen rfl (by rw [hb]; exact hdg)
    obtain ⟨kY, hkY, -⟩ := className_of_methodNamed (X₁.named hnamed)
    have hinitY : kY.init = .initialized := Cond.initialized_spec (findClass_of_methodNamed (X₁.named hnamed)) hkY (word_at (a' := args) X₁.warmed (Or.inl (by first | rfl | simp [Cond.onTables, Cond.keeps, Cond.steady])) (hts _ q30))
    obtain ⟨o, t, T', L, X', hL, e1, e2, hq, r1, r2⟩ := hr_back hM (fun _ _ _ _ h => h) rfl rfl hR.1 (maxL := 1) (by show 8 + (1 + 11) + 40 ≤ R.locals; omega) X₁ (g := F0 m pc ls rest) rfl (hsize.trans X.ml.symm) (by rw [hb]; exact hdg) (lv_room hW) (X₁.named hnamed) (methY := methM) (cY := cM) (by rw [X₁.warmed.alike.method?]; exact hmethM) hcM hlM hkY hinitY (pay_in hts hr_GCl) ⟨hf.1, hf.2⟩ (a := [Value.ref a].toArray)
      ⟨rfl, by show T.heap.size = H.size; rw [hT], ⟨State.WarmedH.trans (t := s) X.2.2.1.1 X₁.warmed, by show ∀ q : Nat, q < s0.heap.size → T.heap[q]? = s0.heap[q]?; rw [hT]; exact hB⟩, hT, by show hr_xo s0 (hr_xn j) a (va_rf v) T.heap; rw [hT]; exact hO⟩
    refine ⟨o, _, t, T', L, ?_, X', hL, e1, e2, hq, fun w hv target h => ?_, fun x hx2 target h => ?_⟩
    · exact hT
    · exact hstep₁ _ fun acts => by rw [doInvoke_state]; exact (r1 w hv).trans h
    · exact hstep₁ _ fun acts => by rw [doInvoke_state]; exact (r2 x hx2).trans h
  refine hr_go hrun ?_
  intro o st₀ t H1 L h0 ht hvm hq hL
  subst ht
  obtain ⟨⟨rfl, hh⟩, hk⟩ := hq
  rw [h0] at hk
  have hS9 := hr_Sv (lo := s0.heap.size) (n := 0) hS X.2.2.2.2 (fun q h1 h2 => absurd h2 (by omega)) hk hL
  rw [hh] at hS9 ⊢
  exact kk _ hS9
end HRF
end
section
/-! more of the plain law: work by its three kinds of lift; which failures come; mostRopes stays at 6 -/
section HPU
def hp_gd (r : Nat) (q : hp_R) : hp_R := match q with
  | (none, τ) => (none, τ)
  | (some x, τ) => if x.1 = 7 then (some x, τ) else (some (x.1, r :: x.2), hp_exc τ)
def hp_sh (q : hp_R) : hp_R := match q with
  | (none, τ) => (none, τ)
  | (some x, τ) => if x.1 = 7 then (some x, τ) else (none, hp_add (nI (hp_code x)) (hp_wr 7 τ))
theorem hp_work_eq (lf : Nat → hp_S → hp_R) (h : Nat → Int32) (ta lo c : Int32) (σ : hp_S) : hp_work lf h ta lo c σ =
    if 3000 ≤ c then hp_sh (lf (c - 3000).toNatClampNeg σ) else if 2000 ≤ c then hp_gd (c - 2000).toNatClampNeg (lf (c - 2000).toNatClampNeg σ) else if 1000 ≤ c then lf (c - 1000).toNatClampNeg σ
    else if 0 < c then (if c - ta = 0 then (some (2, []), hp_exc σ) else (none, hp_add (lo / (c - ta)) σ)) else if c = -1 then (some (1, []), hp_exc σ)
    else if 3 < (-10 - c).toNatClampNeg then (some (4, []), hp_exc σ) else if h (-10 - c).toNatClampNeg = 0 then (some (3, []), hp_exc σ) else (none, hp_add (h (-10 - c).toNatClampNeg) σ) := rfl
/-- a failure that may come -/
def hp_xw (x : hp_X) : Prop := x.1 = 1 ∨ x.1 = 2 ∨ x.1 = 3 ∨ x.1 = 4 ∨ x.1 = 6 ∨ (x.1 = 7 ∧ x.2 = [])
def hp_ow (o : Option hp_X) : Prop := ∀ x, o = some x → hp_xw x
/-- an outcome that may come: its failure, mostRopes -/
def hp_qw (q : hp_R) : Prop := hp_ow q.1 ∧ q.2.2.2.1 ≤ 6
theorem hp_ow.none : hp_ow none := fun x hx => by cases hx
theorem hp_ow.one {k : Nat} (h : k = 1 ∨ k = 2 ∨ k = 3 ∨ k = 4 ∨ k = 6 ∨ k = 7) : hp_ow (some (k, [])) := by
  intro x hx
  cases hx
  unfold hp_xw
  rcases h with h | h | h | h | h | h <;> simp [h]
theorem hp_gd_qw {r : Nat} {q : hp_R} (h : hp_qw q) : hp_qw (hp_gd r q) := by
  obtain ⟨o, τ⟩ := q
  cases o with
  | none => exact h
  | some x =>
    by_cases h7 : x.1 = 7
    · have e : hp_gd r (some x, τ) = (some x, τ) := by unfold hp_gd; dsimp only; rw [if_pos h7]
      rw [e]; exact h
    · have e : hp_gd r (some x, τ) = (some (x.1, r :: x.2), hp_exc τ) := by unfold hp_gd; dsimp only; rw [if_neg h7]
      rw [e]
      refine ⟨?_, h.2⟩
      intro y hy
      cases hy
      have := h.1 x rfl
      unfold hp_xw at this ⊢
      rcases this with h | h | h | h | h | h
      · exact Or.inl h
      · exact Or.inr (Or.inl h)
      · exact Or.inr (Or.inr (Or.inl h))
      · exact Or.inr (Or.inr (Or.inr (Or.inl h)))
      · exact Or.inr (Or.inr (Or.inr (Or.inr (Or.inl h))))
      · exact absurd h.1 h7
theorem hp_sh_qw {q : hp_R} (h : hp_qw q) : hp_qw (hp_sh q) := by
  obtain ⟨o, τ⟩ := q
  cases o with
  | none => exact h
  | some x =>
    by_cases h7 : x.1 = 7
    · have e : hp_sh (some x, τ) = (some x, τ) := by unfold hp_sh; dsimp only; rw [if_pos h7]
      rw [e]; exact h
    · have e : hp_sh (some x, τ) = (none, hp_add (nI (hp_code x)) (hp_wr 7 τ)) := by unfold hp_sh; dsimp only; rw [if_neg h7]
      rw [e]
      exact ⟨hp_ow.none, h.2⟩
variable {M : Nat → Nat} {C : Nat → Nat → Int32} {h : Nat → Int32} {ta lo : Int32}
theorem hp_work_qw {lf : Nat → hp_S → hp_R} (hl : ∀ r σ, σ.2.2.1 ≤ 6 → hp_qw (lf r σ)) (c : Int32) (σ : hp_S) (hσ : σ.2.2.1 ≤ 6) : hp_qw (hp_work lf h ta lo c σ) := by
  rw [hp_work_eq]
  split
  · exact hp_sh_qw (hl _ σ hσ)
  · split
    · exact hp_gd_qw (hl _ σ hσ)
    · split
      · exact hl _ σ hσ
      · split
        · split
          · exact ⟨hp_ow.one (by decide), hσ⟩
          · exact ⟨hp_ow.none, hσ⟩
        · split
          · exact ⟨hp_ow.one (by decide), hσ⟩
          · split
            · exact ⟨hp_ow.one (by decide), hσ⟩
            · split
              · exact ⟨hp_ow.one (by decide), hσ⟩
              · exact ⟨hp_ow.none, hσ⟩
theorem hp_loop_qw {wk : Int32 → hp_S → hp_R} {C1 : Nat → Int32} (hw : ∀ c σ, σ.2.2.1 ≤ 6 → hp_qw (wk c σ)) : ∀ (rem k : Nat) (σ : hp_S), σ.2.2.1 ≤ 6 → hp_ow (hp_lo (hp_loop wk C1 rem k σ).1) ∧ (hp_loop wk C1 rem k σ).2.2.2.1 ≤ 6 := by
  intro rem
  induction rem with
  | zero => intro k σ hσ; exact ⟨hp_ow.none, hσ⟩
  | succ rem ih =>
    intro k σ hσ
    unfold hp_loop
    split
    · exact ⟨hp_ow.one (by decide), hσ⟩
    · split
      · exact ⟨hp_ow.none, hσ⟩
      · split
        · exact ih (k + 1) _ hσ
        · split
          · exact ⟨hp_ow.none, hσ⟩
          · have hq := hw (C1 k) (hp_beg (hp_wr 3 (hp_wr 2 σ))) hσ
            cases he : wk (C1 k) (hp_beg (hp_wr 3 (hp_wr 2 σ))) with
            | mk o τ =>
              rw [he] at hq
              cases o with
              | none => exact ih (k + 1) _ hq.2
              | some x => exact ⟨hq.1, hq.2⟩
theorem hp_end_qw {q : Option (Option hp_X) × hp_S} (h : hp_ow (hp_lo q.1) ∧ q.2.2.2.1 ≤ 6) : hp_qw (hp_end q) := by
  obtain ⟨o, τ⟩ := q
  match o, h with
  | none, h => exact ⟨hp_ow.none, h.2⟩
  | some none, h => exact ⟨hp_ow.none, h.2⟩
  | some (some x), h => exact h
theorem hp_lift_qw : ∀ (n r : Nat) (σ : hp_S), n ≤ 6 → σ.2.2.1 ≤ 6 → hp_qw (hp_lift M C h ta lo n r σ) := by
  intro n
  induction n with
  | zero => intro r σ _ hσ; exact ⟨hp_ow.one (by decide), hσ⟩
  | succ n ih =>
    intro r σ hn hσ
    unfold hp_lift
    refine hp_end_qw (hp_loop_qw (fun c σ hσ => hp_work_qw (fun r σ hσ => ih r σ (by omega) hσ) c σ hσ) _ _ _ ?_)
    show (if σ.2.2.1 < 6 - n then 6 - n else σ.2.2.1) ≤ 6
    split <;> omega
/-- what the accounts say of one outcome: begun, notes, failures only grow -/
def hp_up3 (σ τ : hp_S) : Prop := hp_n σ ≤ hp_n τ ∧ hp_ex σ ≤ hp_ex τ ∧ hp_bg τ ≤ 300
theorem hp_lift_up (n r : Nat) (σ : hp_S) (hσ : hp_bg σ ≤ 300) : hp_up3 σ (hp_lift M C h ta lo n r σ).2 := by
  obtain ⟨-, h2, h3, h4, -, -⟩ := hp_acc_lift (M := M) (C := C) (h := h) (ta := ta) (lo := lo) n r σ hσ
  exact ⟨h3, h4, h2⟩
theorem hp_gd_up {σ : hp_S} {r : Nat} {q : hp_R} (hq : hp_up3 σ q.2) : hp_up3 σ (hp_gd r q).2 ∧ hp_n (hp_gd r q).2 = hp_n q.2 ∧ hp_ex q.2 ≤ hp_ex (hp_gd r q).2 := by
  obtain ⟨o, τ⟩ := q
  cases o with
  | none => exact ⟨hq, rfl, Nat.le_refl _⟩
  | some x =>
    by_cases h7 : x.1 = 7
    · have e : hp_gd r (some x, τ) = (some x, τ) := by unfold hp_gd; dsimp only; rw [if_pos h7]
      rw [e]; exact ⟨hq, rfl, Nat.le_refl _⟩
    · have e : hp_gd r (some x, τ) = (some (x.1, r :: x.2), hp_exc τ) := by unfold hp_gd; dsimp only; rw [if_neg h7]
      rw [e]
      exact ⟨⟨hq.1, Nat.le_trans hq.2.1 (Nat.le_succ _), hq.2.2⟩, rfl, Nat.le_succ _⟩
theorem hp_sh_up {σ : hp_S} {q : hp_R} (hq : hp_up3 σ q.2) : hp_up3 σ (hp_sh q).2 ∧ hp_n q.2 ≤ hp_n (hp_sh q).2 ∧ hp_ex (hp_sh q).2 = hp_ex q.2 := by
  obtain ⟨o, τ⟩ := q
  cases o with
  | none => exact ⟨hq, Nat.le_refl _, rfl⟩
  | some x =>
    by_cases h7 : x.1 = 7
    · have e : hp_sh (some x, τ) = (some x, τ) := by unfold hp_sh; dsimp only; rw [if_pos h7]
      rw [e]; exact ⟨hq, Nat.le_refl _, rfl⟩
    · have e : hp_sh (some x, τ) = (none, hp_add (nI (hp_code x)) (hp_wr 7 τ)) := by unfold hp_sh; dsimp only; rw [if_neg h7]
      rw [e]
      exact ⟨⟨Nat.le_trans hq.1 (Nat.le_succ _), hq.2.1, hq.2.2⟩, Nat.le_succ _, rfl⟩
theorem hp_work_up {lf : Nat → hp_S → hp_R} (hl : ∀ r σ, hp_bg σ ≤ 300 → hp_acc 3 1 (lf r σ).1 σ (lf r σ).2) (c : Int32) (σ : hp_S) (hσ : hp_bg σ ≤ 300) : hp_up3 σ (hp_work lf h ta lo c σ).2 := by
  obtain ⟨-, h2, h3, h4, -, -⟩ := hp_acc_work (h := h) (ta := ta) (lo := lo) hl c σ hσ
  exact ⟨h3, h4, h2⟩
theorem hp_loop_up {lf : Nat → hp_S → hp_R} {C1 : Nat → Int32} (hl : ∀ r σ, hp_bg σ ≤ 300 → hp_acc 3 1 (lf r σ).1 σ (lf r σ).2) (rem k : Nat) (σ : hp_S) (hσ : hp_bg σ ≤ 300) : hp_up3 σ (hp_loop (hp_work lf h ta lo) C1 rem k σ).2 := by
  obtain ⟨-, h2, h3, h4, -, -⟩ := hp_acc_loop (C1 := C1) (fun c σ hσ => hp_acc_work (h := h) (ta := ta) (lo := lo) hl c σ hσ) rem k σ hσ
  exact ⟨h3, h4, h2⟩
theorem hp_end_up (q : Option (Option hp_X) × hp_S) : hp_n q.2 + 1 ≤ hp_n (hp_end q).2 ∧ hp_ex (hp_end q).2 = hp_ex q.2 := by
  obtain ⟨o, τ⟩ := q
  match o with
  | none => exact ⟨by show hp_n τ + 1 ≤ hp_n τ + 2; omega, rfl⟩
  | some none => exact ⟨Nat.le_refl _, rfl⟩
  | some (some x) => exact ⟨Nat.le_refl _, rfl⟩
end HPU
end
section
/-! THE CLASS: begin, guarded, sheltered, work, over what lift does -/
section HRL
abbrev hhL : List (Nat × Nat × Nat × Nat) := [(125, 136, 303, 0), (171, 178, 303, 0), (213, 220, 303, 0), (278, 284, 303, 0), (303, 305, 303, 0), (110, 152, 343, 0), (171, 194, 343, 0), (213, 236, 343, 0), (278, 324, 343, 0), (343, 345, 343, 0), (77, 252, 418, 0), (278, 390, 418, 0), (418, 420, 418, 0)]
theorem hg_L : GoodIn lw_all (wsW_ yX0_lift cX0_lift 8 none hhL) := lw_methW q296
abbrev hhG : List (Nat × Nat × Nat × Nat) := [(0, 5, 8, 59), (0, 5, 19, 104), (0, 5, 30, 109), (0, 5, 41, 111), (0, 5, 52, 113)]
theorem hg_G : GoodIn lw_all (wsW_ yX0_guarded cX0_guarded 3 none hhG) := lw_methW q355
abbrev hhS : List (Nat × Nat × Nat × Nat) := [(2, 7, 10, 59), (2, 7, 19, 104), (2, 7, 25, 109), (2, 7, 31, 111), (2, 7, 37, 113)]
theorem hg_S : GoodIn lw_all (wsW_ yX0_sheltered cX0_sheltered 4 none hhS) := lw_methW q351
abbrev hhR : List (Nat × Nat × Nat × Nat) := [(50, 55, 58, 59), (50, 55, 70, 104), (50, 55, 79, 89), (50, 55, 89, 109), (50, 55, 98, 111), (50, 55, 107, 113)]
theorem hg_R : GoodIn lw_all (wsW_ yX0_run cX0_run 4 (some .int) hhR) := lw_methW q154
theorem hr_rwL : ∀ q ∈ hhL, q.2.2.2 = 0 ∨ ∃ j, j < 6 ∧ q.2.2.2 = hr_xi j := fun q hq => Or.inl ((by decide : ∀ q ∈ hhL, q.2.2.2 = 0) q hq)
theorem hr_rwG : ∀ q ∈ hhG, q.2.2.2 = 0 ∨ ∃ j, j < 6 ∧ q.2.2.2 = hr_xi j := by decide
theorem hr_rwS : ∀ q ∈ hhS, q.2.2.2 = 0 ∨ ∃ j, j < 6 ∧ q.2.2.2 = hr_xi j := by decide
theorem hr_rwR : ∀ q ∈ hhR, q.2.2.2 = 0 ∨ ∃ j, j < 6 ∧ q.2.2.2 = hr_xi j := by decide
theorem hr_rwN : ∀ q ∈ ([] : List (Nat × Nat × Nat × Nat)), q.2.2.2 = 0 ∨ ∃ j, j < 6 ∧ q.2.2.2 = hr_xi j := fun q hq => absurd hq List.not_mem_nil
/-- a method that returns nothing, or throws -/
def hr_out (D : va_G) (s0 : State) (z : Nat) (P : hp_S → Heap → Prop) (q : hp_R) (o : Outcome) (H : Heap) : Prop :=
  (q.1 = none ∧ o = .returned none ∧ P q.2 H) ∨ ∃ x a, q.1 = some x ∧ o = .threw a ∧ hr_E D s0 z x.1 x.2 a H ∧ P q.2 H
abbrev hr_R (k mc ms : Nat) : Room := { frames := k, cells := mc, slots := ms, locals := 40 * k + 10300 }
theorem hr_lR2 {j maxL : Nat} {R : Room} {mc ms : Nat} (hL : maxL ≤ 21) (hR : j + 1 ≤ R.frames ∧ 40 * (j + 1) + 10300 ≤ R.locals) : (hr_R j mc ms).frames + 1 ≤ R.frames ∧ 8 + (maxL + 11) + (hr_R j mc ms).locals ≤ R.locals := by
  refine ⟨hR.1, ?_⟩
  show 8 + (maxL + 11) + (40 * j + 10300) ≤ R.locals
  omega
theorem hp_xw_cases {x : hp_X} (h : hp_xw x) : (x.1 = 7 ∧ x.2 = [] ∧ hr_xz x = 2) ∨ (¬ x.1 = 7 ∧ ((hr_xz x = 0 ∧ x.2 = [] ∧ (x.1 = 1 ∨ x.1 = 6)) ∨ (hr_xz x = 1 ∧ x.2 ≠ []) ∨ (hr_xz x = 3 ∧ x.2 = [] ∧ x.1 = 2) ∨ (hr_xz x = 4 ∧ x.2 = [] ∧ x.1 = 3) ∨ (hr_xz x = 5 ∧ x.2 = [] ∧ x.1 = 4))) := by
  obtain ⟨k, rs⟩ := x
  cases rs with
  | nil =>
    rcases h with h | h | h | h | h | ⟨h, -⟩ <;> (have h : k = _ := h; subst h; first | (refine Or.inl ⟨rfl, rfl, rfl⟩; done) | exact Or.inr ⟨by decide, by simp [hr_xz, hr_xk]⟩)
  | cons r rs =>
    have hk : ¬ k = 7 := by
      rcases h with h | h | h | h | h | ⟨-, h⟩
      · have h : k = 1 := h; omega
      · have h : k = 2 := h; omega
      · have h : k = 3 := h; omega
      · have h : k = 4 := h; omega
      · have h : k = 6 := h; omega
      · cases h
    exact Or.inr ⟨hk, Or.inr (Or.inl ⟨rfl, by simp⟩)⟩
variable {p : Program} {l : Launch} {e : Env} {R : Room} {s : State} {m : MethodId} {args : Array Value} {below : List Frame} {meth : Method} {c : Code} {H : Heap} {locs : List Loc} {cells slots : Nat} {Q : State → Prop}
variable {cc : ByteArray} {nL : Nat} {own : String} {s0 : State} {D : va_G} {g : ClassId × ClassId × ClassId} {A : Nat → Prop} {pc : Nat} {ls : Array Slot} {rest : List Value} {a z b : Nat}
variable {q : hp_R} {P : hp_S → Heap → Prop} {y : MethodName} {ws : List Cond} {rm : Room} {B : Heap → Prop} {mc ms maxL ar index : Nat} {As : List Value}
theorem hr_callO (X : hr_X p s m args c cc nL own s0 D g A) (hC : hr_C l y ws rm s0 b 20 H.size (.ref b :: As) B (hr_out D s0 z P q) mc ms) (V : hr_V own index y maxL ar) (hG : GoodIn lw_all ws) (hS : va_S A s.heap H locs) (hr : ∀ q : Nat, b ≤ q → q < b + 20 → A q)
    (hrecv : ∃ cell : Cell, H[b]? = some cell ∧ cell.vm.isStatics = false ∧ s.vm.findClass y.cls = some cell.cls) (hB : B H) (hrc : rm.cells = mc) (hrs : rm.slots = ms) (hR : rm.frames + 1 ≤ R.frames ∧ 8 + (maxL + 11) + rm.locals ≤ R.locals) (hsize : ls.size = nL) (hn : As.length = ar) (hW : (rest.map fun v => v.category).sum ≤ 8)
    (hf : cells + mc ≤ R.cells ∧ slots + ms ≤ R.slots) (hdg : decode cc pc = .ok (.invokevirtual index, 3))
    (k1 : q.1 = none → ∀ (H1 : Heap) (locs1 : List Loc), P q.2 H1 → va_S A s.heap H1 locs1 → hr_kp b 20 H H1 → W p l e R s m args below meth c H1 locs1 (cells + mc) (slots + ms) Q (F0 m (pc + 3) ls rest))
    (k2 : ∀ (x : hp_X) (a : Nat), q.1 = some x → ∀ (H1 : Heap) (locs1 : List Loc), hr_E D s0 z x.1 x.2 a H1 → P q.2 H1 → va_S A s.heap H1 locs1 → hr_kp b 20 H H1 → hr_T p l e R s m args below meth c H1 locs1 (cells + mc) (slots + ms) Q (F0 m pc ls rest) a) :
    W p l e R s m args below meth c H locs cells slots Q (F0 m pc ls (As.reverse ++ .ref b :: rest)) := by
  refine hr_callV X hC V hG hS hr hrecv hB hrc hrs hR hsize hn hW hf hdg ?_
  intro o H1 locs1 hq hS hk
  rcases hq with ⟨h1, rfl, h2⟩ | ⟨x, a, h1, rfl, h2, h3⟩
  · exact k1 h1 H1 locs1 h2 hS hk
  · exact k2 x a h1 H1 locs1 h2 h3 hS hk
/-- begin() -/
def hp_bgn (σ : hp_S) : hp_R := if hp_bg σ = 300 then (some (7, []), hp_exc σ) else (none, hp_beg σ)
/-- lift's contract, with n lifts more allowed -/
def hr_CL (l : Launch) (s0 : State) (D : va_G) (g : ClassId × ClassId × ClassId) (b z : Nat) (M : Nat → Nat) (C : Nat → Nat → Int32) (h : Nat → Int32) (ta lo : Int32) (f : Int32 × Int32 × Int32 × Int32) (n : Nat) : Prop :=
  ∀ (r : Nat) (σ : hp_S) (br lm : Int32) (sz : Nat), r < 8 → hp_bg σ ≤ 300 → σ.2.2.1 ≤ 6 → hp_n (hp_lift M C h ta lo n r σ).2 ≤ 2800 → z ≤ sz →
    hr_C l yX0_lift (wsW_ yX0_lift cX0_lift 8 none hhL) (hr_R (3 * n + 10) (3 * (hp_ex (hp_lift M C h ta lo n r σ).2 - hp_ex σ)) (44 * (hp_ex (hp_lift M C h ta lo n r σ).2 - hp_ex σ))) s0 b 20 sz [.ref b, .int (nI r)] (fun H => hr_cG D g b z M C h ta lo f (nI (6 - n)) (nI (6 - n)) br lm σ H)
      (hr_out D s0 z (fun τ H => hr_cG D g b z M C h ta lo f (nI (6 - n)) (nI (6 - n)) br lm τ H) (hp_lift M C h ta lo n r σ)) (3 * (hp_ex (hp_lift M C h ta lo n r σ).2 - hp_ex σ)) (44 * (hp_ex (hp_lift M C h ta lo n r σ).2 - hp_ex σ))
end HRL
section HRM2
set_option maxHeartbeats 4000000 in
theorem k_X0_begin (l : Launch) {s0 : State} {D : va_G} {g : ClassId × ClassId × ClassId} (Z : hr_Z s0 D g) {b z : Nat} (h0 : s0.heap.size ≤ b) {M : Nat → Nat} {C : Nat → Nat → Int32} {h : Nat → Int32} {ta lo : Int32} {f : Int32 × Int32 × Int32 × Int32} {li ro br lm : Int32} {σ : hp_S} (hbg : hp_bg σ ≤ 300) {sz : Nat} (hzz : z ≤ sz) : hr_C l yX0_begin (ws_ yX0_begin cX0_begin 1 none) (hr_R 4 (3 * (hp_ex (hp_bgn σ).2 - hp_ex σ)) (44 * (hp_ex (hp_bgn σ).2 - hp_ex σ))) s0 b 20 sz [.ref b] (fun H => hr_cG D g b z M C h ta lo f li ro br lm σ H) (hr_out D s0 z (fun τ H => hr_cG D g b z M C h ta lo f li ro br lm τ H) (hp_bgn σ)) (3 * (hp_ex (hp_bgn σ).2 - hp_ex σ)) (44 * (hp_ex (hp_bgn σ).2 - hp_ex σ)) := by
  have hx1 : hp_ex (hp_exc σ) = hp_ex σ + 1 := rfl
  by_cases cb : hp_bg σ = 300
  · have eq : hp_bgn σ = (some (7, []), hp_exc σ) := if_pos cb
    rw [eq]
    refine hr_meth (by decide) (Nat.le_of_ble_eq_true rfl) Z h0 ?_
    intro p e s m0 below meth c ls X hr hlk hnm htab hadm hsz hC hl
    have hl : lv_has ls 1 [(0, _)] := hl
    have hS := hr_S0 (s := s) (lo := b) (n := 20)
    have hSz : s.heap.size ≤ s.heap.size := Nat.le_refl _
    refine lv_aload_n X.ex X.by dX0_begin_0 rfl (lv_at hl 0 rfl) ?_
    refine hr_cget X hC 5 (by decide) rfl q72 dX0_begin_1 ?_
    refine lv_sipush (v := 300) X.ex X.by dX0_begin_4 (by decide) ?_
    refine lv_icmp_ne (tgt := 18) X.ex X.by dX0_begin_7 (by decide) (fun c_7 => absurd (show nI (hp_bg σ) = 300 by rw [cb]; rfl) c_7) (fun _ => ?_)
    refine hr_newM X hr_i6 hS q157 q329 q39 (fs := [.null, .null, .null, .null, .null, .int 0]) (fun j hj => by rcases (show j = 0 ∨ j = 1 ∨ j = 2 ∨ j = 3 ∨ j = 4 ∨ j = 5 by omega) with rfl | rfl | rfl | rfl | rfl | rfl <;> rfl) (by show 0 + 1 ≤ 3 * (hp_ex (hp_exc σ) - hp_ex σ); omega) (by show 0 + 6 ≤ 44 * (hp_ex (hp_exc σ) - hp_ex σ); omega) dX0_begin_10 (fun a2 H2 ha2 hO2 hM2 zN oN hS => ?_)
    have hC2 := hC
    refine lv_dup X.ex X.by dX0_begin_13 rfl ?_
    refine hr_callIv (As := []) (lo := a2) (n := 1) (mc := 0) (ms := 0) X (k_X5_init l X.2.1 (by have := X.size; have := hS.1; omega) ) v_X5_init (lw_meth q339) hS (fun q hq1 hq2 => Or.inr (by have := hSz; omega)) ⟨hO2, hM2⟩ rfl rfl (hr_lR (by decide) ⟨Nat.le_of_ble_eq_true rfl, Nat.le_of_ble_eq_true rfl⟩) hl.1 rfl (Nat.le_of_ble_eq_true rfl) ⟨by show 0 + 1 + 0 ≤ 3 * (hp_ex (hp_exc σ) - hp_ex σ); omega, by show 0 + 6 + 0 ≤ 44 * (hp_ex (hp_exc σ) - hp_ex σ); omega⟩ dX0_begin_14 (fun H locs hP hS hk => ?_)
    obtain ⟨qs, hO2, hM2⟩ := hP
    have hold : ∀ q : Nat, q < _ → H[q]? = _ := fun q hq => (hk.2 q (by rw [zN]; exact Nat.lt_succ_of_lt hq) (by omega)).trans (oN q hq)
    have hC := hr_cw.keptN hC2 hold
    refine hr_athrow X.ex X.by dX0_begin_17 ?_
    have hE := hr_E.weary (z := z) X (by omega) hO2 hM2
    exact hr_leave X hlk (hh := []) (by rw [htab]; rfl) hr_rwN (k := 2) (by decide) (hr_E.xc (x := (7, [])) X hE) rfl hS (Or.inr ⟨(7, []), a2, rfl, rfl, hE, hC⟩) (by show 0 + 1 + 0 ≤ 3 * (hp_ex (hp_exc σ) - hp_ex σ); omega) (by show 0 + 6 + 0 ≤ 44 * (hp_ex (hp_exc σ) - hp_ex σ); omega)
  · have eq : hp_bgn σ = (none, hp_beg σ) := if_neg cb
    rw [eq]
    refine hr_meth (by decide) (Nat.le_of_ble_eq_true rfl) Z h0 ?_
    intro p e s m0 below meth c ls X hr hlk hnm htab hadm hsz hC hl
    have hl : lv_has ls 1 [(0, _)] := hl
    have hS := hr_S0 (s := s) (lo := b) (n := 20)
    have hreg := hr_reg (lo := b) (n := 20) (sz := s.heap.size)
    refine lv_aload_n X.ex X.by dX0_begin_0 rfl (lv_at hl 0 rfl) ?_
    refine hr_cget X hC 5 (by decide) rfl q72 dX0_begin_1 ?_
    refine lv_sipush (v := 300) X.ex X.by dX0_begin_4 (by decide) ?_
    refine lv_icmp_ne (tgt := 18) X.ex X.by dX0_begin_7 (by decide) (fun _ => ?_) (fun c_7 => absurd ((nI_eq (Nat.lt_of_le_of_lt hbg (by decide)) (by decide)).mp (show nI (hp_bg σ) = nI 300 from c_7)) cb)
    refine lv_aload_n X.ex X.by dX0_begin_18 rfl (lv_at hl 0 rfl) ?_
    refine lv_dup X.ex X.by dX0_begin_19 rfl ?_
    refine hr_cget X hC 5 (by decide) rfl q72 dX0_begin_20 ?_
    refine lv_iconst (v := 1) X.ex X.by dX0_begin_23 (by decide) ?_
    refine lv_iadd X.ex X.by dX0_begin_24 ?_
    refine hr_cput X hC hS hreg 5 (by decide) (Nat.le_of_ble_eq_true rfl) rfl rfl q72 dX0_begin_25 (fun H locs hC hS _ => ?_)
    rw [nI_1] at hC
    exact hr_vret X hr hlk hS (Or.inl ⟨rfl, rfl, hC⟩) (Nat.zero_le _) (Nat.zero_le _) dX0_begin_28
set_option maxHeartbeats 4000000 in
theorem k_X0_guarded (l : Launch) {s0 : State} {D : va_G} {g : ClassId × ClassId × ClassId} (Z : hr_Z s0 D g) {b z : Nat} (h0 : s0.heap.size ≤ b) {M : Nat → Nat} {C : Nat → Nat → Int32} {h : Nat → Int32} {ta lo : Int32} {f : Int32 × Int32 × Int32 × Int32} {n : Nat} (hn6 : n ≤ 6) (hL : hr_CL l s0 D g b z M C h ta lo f n) (r : Nat) {σ : hp_S} {br lm : Int32} (hr8 : r < 8) (hbg : hp_bg σ ≤ 300) (hmr : σ.2.2.1 ≤ 6) (hnn : hp_n (hp_gd r (hp_lift M C h ta lo n r σ)).2 ≤ 2800) {sz : Nat} (hzz : z ≤ sz) : hr_C l yX0_guarded (wsW_ yX0_guarded cX0_guarded 3 none hhG) (hr_R (3 * n + 11) (3 * (hp_ex (hp_gd r (hp_lift M C h ta lo n r σ)).2 - hp_ex σ)) (44 * (hp_ex (hp_gd r (hp_lift M C h ta lo n r σ)).2 - hp_ex σ))) s0 b 20 sz [.ref b, .int (nI r)] (fun H => hr_cG D g b z M C h ta lo f (nI (6 - n)) (nI (6 - n)) br lm σ H) (hr_out D s0 z (fun τ H => hr_cG D g b z M C h ta lo f (nI (6 - n)) (nI (6 - n)) br lm τ H) (hp_gd r (hp_lift M C h ta lo n r σ))) (3 * (hp_ex (hp_gd r (hp_lift M C h ta lo n r σ)).2 - hp_ex σ)) (44 * (hp_ex (hp_gd r (hp_lift M C h ta lo n r σ)).2 - hp_ex σ)) := by
  have hup := hp_lift_up (M := M) (C := C) (h := h) (ta := ta) (lo := lo) n r σ hbg
  have hgu := hp_gd_up (r := r) hup
  have hqw := hp_lift_qw (M := M) (C := C) (h := h) (ta := ta) (lo := lo) n r σ hn6 hmr
  obtain ⟨ql, hql⟩ : ∃ ql, ql = hp_lift M C h ta lo n r σ := ⟨_, rfl⟩
  have hLr := hL r σ br lm
  rw [← hql] at hup hgu hqw hnn hLr ⊢
  refine hr_methH (by decide) (Nat.le_of_ble_eq_true rfl) Z h0 ?_
  intro p e s m0 below meth c ls X hr hlk htab hadm hsz hC hl
  have hl : lv_has ls 3 [(0, _), (1, _)] := hl
  have hS := hr_S0 (s := s) (lo := b) (n := 20)
  have hreg := hr_reg (lo := b) (n := 20) (sz := s.heap.size)
  have hle : hp_ex σ ≤ hp_ex ql.2 := hup.2.1
  have hle2 : hp_ex ql.2 ≤ hp_ex (hp_gd r ql).2 := hgu.2.2
  refine lv_aload_n X.ex X.by dX0_guarded_0 rfl (lv_at hl 0 rfl) ?_
  refine lv_iload_n X.ex X.by dX0_guarded_1 rfl (lv_at hl 1 rfl) ?_
  refine hr_callO (As := [.int (nI r)]) X (hLr s.heap.size hr8 hbg hmr (by rw [← hgu.2.1]; exact hnn) (by omega)) v_X0_lift hg_L hS hreg (hr_cG.recv X hC) hC rfl rfl (hr_lR2 (by decide) ⟨by show 3 * n + 10 + 1 ≤ 3 * n + 11; omega, by show 40 * (3 * n + 10 + 1) + 10300 ≤ 40 * (3 * n + 11) + 10300; omega⟩) hl.1 rfl (Nat.le_of_ble_eq_true rfl) ⟨by show 0 + 3 * (hp_ex ql.2 - hp_ex σ) ≤ 3 * (hp_ex (hp_gd r ql).2 - hp_ex σ); omega, by show 0 + 44 * (hp_ex ql.2 - hp_ex σ) ≤ 44 * (hp_ex (hp_gd r ql).2 - hp_ex σ); omega⟩ dX0_guarded_2 (fun hq H locs hC hS hkp => ?_) (fun x a hq H locs hE hC hS hkp => ?_)
  · have eq : hp_gd r ql = (none, ql.2) := by
      obtain ⟨o, τ⟩ := ql
      cases hq
      rfl
    rw [eq]
    refine lv_goto (tgt := 63) X.ex X.by dX0_guarded_5 (by decide) ?_
    exact hr_vret X hr hlk hS (Or.inl ⟨rfl, rfl, hC⟩) (by show 0 + 3 * (hp_ex ql.2 - hp_ex σ) ≤ 3 * (hp_ex ql.2 - hp_ex σ); omega) (by show 0 + 44 * (hp_ex ql.2 - hp_ex σ) ≤ 44 * (hp_ex ql.2 - hp_ex σ); omega) dX0_guarded_63
  · have hSz : s.heap.size ≤ H.size := hS.1
    have hxc := hE.xc X
    rcases hp_xw_cases (hqw.1 x hq) with ⟨h7, hnil, ez⟩ | ⟨h7, hcl⟩
    · have eq : hp_gd r ql = (some x, ql.2) := by
        obtain ⟨o, τ⟩ := ql
        cases hq
        unfold hp_gd; dsimp only; rw [if_pos h7]
      rw [eq]
      rw [ez] at hxc
      exact hr_leave X hlk htab hr_rwG (k := 2) (by decide) hxc (by decide) hS (Or.inr ⟨x, a, rfl, rfl, hE, hC⟩) (by show 0 + 3 * (hp_ex ql.2 - hp_ex σ) ≤ 3 * (hp_ex ql.2 - hp_ex σ); omega) (by show 0 + 44 * (hp_ex ql.2 - hp_ex σ) ≤ 44 * (hp_ex ql.2 - hp_ex σ); omega)
    · have eq : hp_gd r ql = (some (x.1, r :: x.2), hp_exc ql.2) := by
        obtain ⟨o, τ⟩ := ql
        cases hq
        unfold hp_gd; dsimp only; rw [if_neg h7]
      rw [eq]
      have hx1 : hp_ex (hp_exc ql.2) = hp_ex ql.2 + 1 := rfl
      rcases hcl with ⟨ez, -⟩ | ⟨ez, -⟩ | ⟨ez, -⟩ | ⟨ez, -⟩ | ⟨ez, -⟩
      · rw [ez] at hxc
        refine hr_catch X htab hr_rwG (k := 0) (by decide) hxc (hpc := 8) (by decide) ?_
        refine lv_astore_n X.ex X.by dX0_guarded_8 rfl hl (by decide) rfl (fun ls hl => ?_)
        have hl : lv_has ls 3 [(2, _), (0, _), (1, _)] := hl
        have hlt := (hE.lt).2
        refine hr_newM X hr_i5 hS q156 q356 q40 (fs := [.null, .null, .null, .null, .null, .int 0, .int 0]) (fun j hj => by rcases (show j = 0 ∨ j = 1 ∨ j = 2 ∨ j = 3 ∨ j = 4 ∨ j = 5 ∨ j = 6 by omega) with rfl | rfl | rfl | rfl | rfl | rfl | rfl <;> rfl) (by show 0 + 3 * (hp_ex ql.2 - hp_ex σ) + 1 ≤ 3 * (hp_ex (hp_exc ql.2) - hp_ex σ); omega) (by show 0 + 44 * (hp_ex ql.2 - hp_ex σ) + 7 ≤ 44 * (hp_ex (hp_exc ql.2) - hp_ex σ); omega) dX0_guarded_9 (fun a2 H2 ha2 hO2 hM2 zN oN hS => ?_)
        have hC2 := hC
        refine lv_dup X.ex X.by dX0_guarded_12 rfl ?_
        refine lv_iload_n X.ex X.by dX0_guarded_13 rfl (lv_at hl 2 rfl) ?_
        refine lv_aload_n X.ex X.by dX0_guarded_14 rfl (lv_at hl 0 rfl) ?_
        refine hr_callIv (As := [.int (nI r), .ref a]) (lo := a2) (n := 1) (mc := 0) (ms := 0) X (k_X6_init l X.2.1 (by have := X.size; have := hS.1; omega) (nI r) a) v_X6_init (lw_meth q366) hS (fun q hq1 hq2 => Or.inr (by have := hSz; omega)) ⟨hO2, hM2⟩ rfl rfl (hr_lR (by decide) ⟨by show 4 ≤ 3 * n + 11; omega, by show 160 ≤ 40 * (3 * n + 11) + 10300; omega⟩) hl.1 rfl (Nat.le_of_ble_eq_true rfl) ⟨by show 0 + 3 * (hp_ex ql.2 - hp_ex σ) + 1 + 0 ≤ 3 * (hp_ex (hp_exc ql.2) - hp_ex σ); omega, by show 0 + 44 * (hp_ex ql.2 - hp_ex σ) + 7 + 0 ≤ 44 * (hp_ex (hp_exc ql.2) - hp_ex σ); omega⟩ dX0_guarded_15 (fun H locs hP hS hk => ?_)
        obtain ⟨qs, hO2, hM2⟩ := hP
        have hold : ∀ q : Nat, q < _ → H[q]? = _ := fun q hq => (hk.2 q (by rw [zN]; exact Nat.lt_succ_of_lt hq) (by omega)).trans (oN q hq)
        have hC := hr_cw.keptN hC2 hold
        have hE := hE.kept (H1 := H) (fun q _ hq => hold q hq)
        refine hr_athrow X.ex X.by dX0_guarded_18 ?_
        have hE2 := hr_E.spill (z := z) (r := r) X (by omega) hO2 hM2 hE (by omega)
        exact hr_leave X hlk htab hr_rwG (k := 1) (by decide) (hr_E.xc (x := (x.1, r :: x.2)) X hE2) (by decide) hS (Or.inr ⟨(x.1, r :: x.2), a2, rfl, rfl, hE2, hC⟩) (by show 0 + 3 * (hp_ex ql.2 - hp_ex σ) + 1 + 0 ≤ 3 * (hp_ex (hp_exc ql.2) - hp_ex σ); omega) (by show 0 + 44 * (hp_ex ql.2 - hp_ex σ) + 7 + 0 ≤ 44 * (hp_ex (hp_exc ql.2) - hp_ex σ); omega)
      · rw [ez] at hxc
        refine hr_catch X htab hr_rwG (k := 1) (by decide) hxc (hpc := 19) (by decide) ?_
        refine lv_astore_n X.ex X.by dX0_guarded_19 rfl hl (by decide) rfl (fun ls hl => ?_)
        have hl : lv_has ls 3 [(2, _), (0, _), (1, _)] := hl
        have hlt := (hE.lt).2
        refine hr_newM X hr_i5 hS q156 q356 q40 (fs := [.null, .null, .null, .null, .null, .int 0, .int 0]) (fun j hj => by rcases (show j = 0 ∨ j = 1 ∨ j = 2 ∨ j = 3 ∨ j = 4 ∨ j = 5 ∨ j = 6 by omega) with rfl | rfl | rfl | rfl | rfl | rfl | rfl <;> rfl) (by show 0 + 3 * (hp_ex ql.2 - hp_ex σ) + 1 ≤ 3 * (hp_ex (hp_exc ql.2) - hp_ex σ); omega) (by show 0 + 44 * (hp_ex ql.2 - hp_ex σ) + 7 ≤ 44 * (hp_ex (hp_exc ql.2) - hp_ex σ); omega) dX0_guarded_20 (fun a2 H2 ha2 hO2 hM2 zN oN hS => ?_)
        have hC2 := hC
        refine lv_dup X.ex X.by dX0_guarded_23 rfl ?_
        refine lv_iload_n X.ex X.by dX0_guarded_24 rfl (lv_at hl 2 rfl) ?_
        refine lv_aload_n X.ex X.by dX0_guarded_25 rfl (lv_at hl 0 rfl) ?_
        refine hr_callIv (As := [.int (nI r), .ref a]) (lo := a2) (n := 1) (mc := 0) (ms := 0) X (k_X6_init l X.2.1 (by have := X.size; have := hS.1; omega) (nI r) a) v_X6_init (lw_meth q366) hS (fun q hq1 hq2 => Or.inr (by have := hSz; omega)) ⟨hO2, hM2⟩ rfl rfl (hr_lR (by decide) ⟨by show 4 ≤ 3 * n + 11; omega, by show 160 ≤ 40 * (3 * n + 11) + 10300; omega⟩) hl.1 rfl (Nat.le_of_ble_eq_true rfl) ⟨by show 0 + 3 * (hp_ex ql.2 - hp_ex σ) + 1 + 0 ≤ 3 * (hp_ex (hp_exc ql.2) - hp_ex σ); omega, by show 0 + 44 * (hp_ex ql.2 - hp_ex σ) + 7 + 0 ≤ 44 * (hp_ex (hp_exc ql.2) - hp_ex σ); omega⟩ dX0_guarded_26 (fun H locs hP hS hk => ?_)
        obtain ⟨qs, hO2, hM2⟩ := hP
        have hold : ∀ q : Nat, q < _ → H[q]? = _ := fun q hq => (hk.2 q (by rw [zN]; exact Nat.lt_succ_of_lt hq) (by omega)).trans (oN q hq)
        have hC := hr_cw.keptN hC2 hold
        have hE := hE.kept (H1 := H) (fun q _ hq => hold q hq)
        refine hr_athrow X.ex X.by dX0_guarded_29 ?_
        have hE2 := hr_E.spill (z := z) (r := r) X (by omega) hO2 hM2 hE (by omega)
        exact hr_leave X hlk htab hr_rwG (k := 1) (by decide) (hr_E.xc (x := (x.1, r :: x.2)) X hE2) (by decide) hS (Or.inr ⟨(x.1, r :: x.2), a2, rfl, rfl, hE2, hC⟩) (by show 0 + 3 * (hp_ex ql.2 - hp_ex σ) + 1 + 0 ≤ 3 * (hp_ex (hp_exc ql.2) - hp_ex σ); omega) (by show 0 + 44 * (hp_ex ql.2 - hp_ex σ) + 7 + 0 ≤ 44 * (hp_ex (hp_exc ql.2) - hp_ex σ); omega)
      · rw [ez] at hxc
        refine hr_catch X htab hr_rwG (k := 3) (by decide) hxc (hpc := 30) (by decide) ?_
        refine lv_astore_n X.ex X.by dX0_guarded_30 rfl hl (by decide) rfl (fun ls hl => ?_)
        have hl : lv_has ls 3 [(2, _), (0, _), (1, _)] := hl
        have hlt := (hE.lt).2
        refine hr_newM X hr_i5 hS q156 q356 q40 (fs := [.null, .null, .null, .null, .null, .int 0, .int 0]) (fun j hj => by rcases (show j = 0 ∨ j = 1 ∨ j = 2 ∨ j = 3 ∨ j = 4 ∨ j = 5 ∨ j = 6 by omega) with rfl | rfl | rfl | rfl | rfl | rfl | rfl <;> rfl) (by show 0 + 3 * (hp_ex ql.2 - hp_ex σ) + 1 ≤ 3 * (hp_ex (hp_exc ql.2) - hp_ex σ); omega) (by show 0 + 44 * (hp_ex ql.2 - hp_ex σ) + 7 ≤ 44 * (hp_ex (hp_exc ql.2) - hp_ex σ); omega) dX0_guarded_31 (fun a2 H2 ha2 hO2 hM2 zN oN hS => ?_)
        have hC2 := hC
        refine lv_dup X.ex X.by dX0_guarded_34 rfl ?_
        refine lv_iload_n X.ex X.by dX0_guarded_35 rfl (lv_at hl 2 rfl) ?_
        refine lv_aload_n X.ex X.by dX0_guarded_36 rfl (lv_at hl 0 rfl) ?_
        refine hr_callIv (As := [.int (nI r), .ref a]) (lo := a2) (n := 1) (mc := 0) (ms := 0) X (k_X6_init l X.2.1 (by have := X.size; have := hS.1; omega) (nI r) a) v_X6_init (lw_meth q366) hS (fun q hq1 hq2 => Or.inr (by have := hSz; omega)) ⟨hO2, hM2⟩ rfl rfl (hr_lR (by decide) ⟨by show 4 ≤ 3 * n + 11; omega, by show 160 ≤ 40 * (3 * n + 11) + 10300; omega⟩) hl.1 rfl (Nat.le_of_ble_eq_true rfl) ⟨by show 0 + 3 * (hp_ex ql.2 - hp_ex σ) + 1 + 0 ≤ 3 * (hp_ex (hp_exc ql.2) - hp_ex σ); omega, by show 0 + 44 * (hp_ex ql.2 - hp_ex σ) + 7 + 0 ≤ 44 * (hp_ex (hp_exc ql.2) - hp_ex σ); omega⟩ dX0_guarded_37 (fun H locs hP hS hk => ?_)
        obtain ⟨qs, hO2, hM2⟩ := hP
        have hold : ∀ q : Nat, q < _ → H[q]? = _ := fun q hq => (hk.2 q (by rw [zN]; exact Nat.lt_succ_of_lt hq) (by omega)).trans (oN q hq)
        have hC := hr_cw.keptN hC2 hold
        have hE := hE.kept (H1 := H) (fun q _ hq => hold q hq)
        refine hr_athrow X.ex X.by dX0_guarded_40 ?_
        have hE2 := hr_E.spill (z := z) (r := r) X (by omega) hO2 hM2 hE (by omega)
        exact hr_leave X hlk htab hr_rwG (k := 1) (by decide) (hr_E.xc (x := (x.1, r :: x.2)) X hE2) (by decide) hS (Or.inr ⟨(x.1, r :: x.2), a2, rfl, rfl, hE2, hC⟩) (by show 0 + 3 * (hp_ex ql.2 - hp_ex σ) + 1 + 0 ≤ 3 * (hp_ex (hp_exc ql.2) - hp_ex σ); omega) (by show 0 + 44 * (hp_ex ql.2 - hp_ex σ) + 7 + 0 ≤ 44 * (hp_ex (hp_exc ql.2) - hp_ex σ); omega)
      · rw [ez] at hxc
        refine hr_catch X htab hr_rwG (k := 4) (by decide) hxc (hpc := 41) (by decide) ?_
        refine lv_astore_n X.ex X.by dX0_guarded_41 rfl hl (by decide) rfl (fun ls hl => ?_)
        have hl : lv_has ls 3 [(2, _), (0, _), (1, _)] := hl
        have hlt := (hE.lt).2
        refine hr_newM X hr_i5 hS q156 q356 q40 (fs := [.null, .null, .null, .null, .null, .int 0, .int 0]) (fun j hj => by rcases (show j = 0 ∨ j = 1 ∨ j = 2 ∨ j = 3 ∨ j = 4 ∨ j = 5 ∨ j = 6 by omega) with rfl | rfl | rfl | rfl | rfl | rfl | rfl <;> rfl) (by show 0 + 3 * (hp_ex ql.2 - hp_ex σ) + 1 ≤ 3 * (hp_ex (hp_exc ql.2) - hp_ex σ); omega) (by show 0 + 44 * (hp_ex ql.2 - hp_ex σ) + 7 ≤ 44 * (hp_ex (hp_exc ql.2) - hp_ex σ); omega) dX0_guarded_42 (fun a2 H2 ha2 hO2 hM2 zN oN hS => ?_)
        have hC2 := hC
        refine lv_dup X.ex X.by dX0_guarded_45 rfl ?_
        refine lv_iload_n X.ex X.by dX0_guarded_46 rfl (lv_at hl 2 rfl) ?_
        refine lv_aload_n X.ex X.by dX0_guarded_47 rfl (lv_at hl 0 rfl) ?_
        refine hr_callIv (As := [.int (nI r), .ref a]) (lo := a2) (n := 1) (mc := 0) (ms := 0) X (k_X6_init l X.2.1 (by have := X.size; have := hS.1; omega) (nI r) a) v_X6_init (lw_meth q366) hS (fun q hq1 hq2 => Or.inr (by have := hSz; omega)) ⟨hO2, hM2⟩ rfl rfl (hr_lR (by decide) ⟨by show 4 ≤ 3 * n + 11; omega, by show 160 ≤ 40 * (3 * n + 11) + 10300; omega⟩) hl.1 rfl (Nat.le_of_ble_eq_true rfl) ⟨by show 0 + 3 * (hp_ex ql.2 - hp_ex σ) + 1 + 0 ≤ 3 * (hp_ex (hp_exc ql.2) - hp_ex σ); omega, by show 0 + 44 * (hp_ex ql.2 - hp_ex σ) + 7 + 0 ≤ 44 * (hp_ex (hp_exc ql.2) - hp_ex σ); omega⟩ dX0_guarded_48 (fun H locs hP hS hk => ?_)
        obtain ⟨qs, hO2, hM2⟩ := hP
        have hold : ∀ q : Nat, q < _ → H[q]? = _ := fun q hq => (hk.2 q (by rw [zN]; exact Nat.lt_succ_of_lt hq) (by omega)).trans (oN q hq)
        have hC := hr_cw.keptN hC2 hold
        have hE := hE.kept (H1 := H) (fun q _ hq => hold q hq)
        refine hr_athrow X.ex X.by dX0_guarded_51 ?_
        have hE2 := hr_E.spill (z := z) (r := r) X (by omega) hO2 hM2 hE (by omega)
        exact hr_leave X hlk htab hr_rwG (k := 1) (by decide) (hr_E.xc (x := (x.1, r :: x.2)) X hE2) (by decide) hS (Or.inr ⟨(x.1, r :: x.2), a2, rfl, rfl, hE2, hC⟩) (by show 0 + 3 * (hp_ex ql.2 - hp_ex σ) + 1 + 0 ≤ 3 * (hp_ex (hp_exc ql.2) - hp_ex σ); omega) (by show 0 + 44 * (hp_ex ql.2 - hp_ex σ) + 7 + 0 ≤ 44 * (hp_ex (hp_exc ql.2) - hp_ex σ); omega)
      · rw [ez] at hxc
        refine hr_catch X htab hr_rwG (k := 5) (by decide) hxc (hpc := 52) (by decide) ?_
        refine lv_astore_n X.ex X.by dX0_guarded_52 rfl hl (by decide) rfl (fun ls hl => ?_)
        have hl : lv_has ls 3 [(2, _), (0, _), (1, _)] := hl
        have hlt := (hE.lt).2
        refine hr_newM X hr_i5 hS q156 q356 q40 (fs := [.null, .null, .null, .null, .null, .int 0, .int 0]) (fun j hj => by rcases (show j = 0 ∨ j = 1 ∨ j = 2 ∨ j = 3 ∨ j = 4 ∨ j = 5 ∨ j = 6 by omega) with rfl | rfl | rfl | rfl | rfl | rfl | rfl <;> rfl) (by show 0 + 3 * (hp_ex ql.2 - hp_ex σ) + 1 ≤ 3 * (hp_ex (hp_exc ql.2) - hp_ex σ); omega) (by show 0 + 44 * (hp_ex ql.2 - hp_ex σ) + 7 ≤ 44 * (hp_ex (hp_exc ql.2) - hp_ex σ); omega) dX0_guarded_53 (fun a2 H2 ha2 hO2 hM2 zN oN hS => ?_)
        have hC2 := hC
        refine lv_dup X.ex X.by dX0_guarded_56 rfl ?_
        refine lv_iload_n X.ex X.by dX0_guarded_57 rfl (lv_at hl 2 rfl) ?_
        refine lv_aload_n X.ex X.by dX0_guarded_58 rfl (lv_at hl 0 rfl) ?_
        refine hr_callIv (As := [.int (nI r), .ref a]) (lo := a2) (n := 1) (mc := 0) (ms := 0) X (k_X6_init l X.2.1 (by have := X.size; have := hS.1; omega) (nI r) a) v_X6_init (lw_meth q366) hS (fun q hq1 hq2 => Or.inr (by have := hSz; omega)) ⟨hO2, hM2⟩ rfl rfl (hr_lR (by decide) ⟨by show 4 ≤ 3 * n + 11; omega, by show 160 ≤ 40 * (3 * n + 11) + 10300; omega⟩) hl.1 rfl (Nat.le_of_ble_eq_true rfl) ⟨by show 0 + 3 * (hp_ex ql.2 - hp_ex σ) + 1 + 0 ≤ 3 * (hp_ex (hp_exc ql.2) - hp_ex σ); omega, by show 0 + 44 * (hp_ex ql.2 - hp_ex σ) + 7 + 0 ≤ 44 * (hp_ex (hp_exc ql.2) - hp_ex σ); omega⟩ dX0_guarded_59 (fun H locs hP hS hk => ?_)
        obtain ⟨qs, hO2, hM2⟩ := hP
        have hold : ∀ q : Nat, q < _ → H[q]? = _ := fun q hq => (hk.2 q (by rw [zN]; exact Nat.lt_succ_of_lt hq) (by omega)).trans (oN q hq)
        have hC := hr_cw.keptN hC2 hold
        have hE := hE.kept (H1 := H) (fun q _ hq => hold q hq)
        refine hr_athrow X.ex X.by dX0_guarded_62 ?_
        have hE2 := hr_E.spill (z := z) (r := r) X (by omega) hO2 hM2 hE (by omega)
        exact hr_leave X hlk htab hr_rwG (k := 1) (by decide) (hr_E.xc (x := (x.1, r :: x.2)) X hE2) (by decide) hS (Or.inr ⟨(x.1, r :: x.2), a2, rfl, rfl, hE2, hC⟩) (by show 0 + 3 * (hp_ex ql.2 - hp_ex σ) + 1 + 0 ≤ 3 * (hp_ex (hp_exc ql.2) - hp_ex σ); omega) (by show 0 + 44 * (hp_ex ql.2 - hp_ex σ) + 7 + 0 ≤ 44 * (hp_ex (hp_exc ql.2) - hp_ex σ); omega)
end HRM2
end
section
/-! THE CLASS: sheltered, work, over what lift does -/
section HRM3
set_option maxHeartbeats 4000000 in
theorem k_X0_sheltered (l : Launch) {s0 : State} {D : va_G} {g : ClassId × ClassId × ClassId} (Z : hr_Z s0 D g) {b z : Nat} (h0 : s0.heap.size ≤ b) {M : Nat → Nat} {C : Nat → Nat → Int32} {h : Nat → Int32} {ta lo : Int32} {f : Int32 × Int32 × Int32 × Int32} {n : Nat} (hn6 : n ≤ 6) (hL : hr_CL l s0 D g b z M C h ta lo f n) (r : Nat) {σ : hp_S} {br lm : Int32} (hr8 : r < 8) (hbg : hp_bg σ ≤ 300) (hmr : σ.2.2.1 ≤ 6) (hnn : hp_n (hp_sh (hp_lift M C h ta lo n r σ)).2 ≤ 2800) {sz : Nat} (hzz : z ≤ sz) : hr_C l yX0_sheltered (wsW_ yX0_sheltered cX0_sheltered 4 none hhS) (hr_R (3 * n + 11) (3 * (hp_ex (hp_sh (hp_lift M C h ta lo n r σ)).2 - hp_ex σ)) (44 * (hp_ex (hp_sh (hp_lift M C h ta lo n r σ)).2 - hp_ex σ))) s0 b 20 sz [.ref b, .int (nI r)] (fun H => hr_cG D g b z M C h ta lo f (nI (6 - n)) (nI (6 - n)) br lm σ H) (hr_out D s0 z (fun τ H => hr_cG D g b z M C h ta lo f (nI (6 - n)) (nI (6 - n)) br lm τ H) (hp_sh (hp_lift M C h ta lo n r σ))) (3 * (hp_ex (hp_sh (hp_lift M C h ta lo n r σ)).2 - hp_ex σ)) (44 * (hp_ex (hp_sh (hp_lift M C h ta lo n r σ)).2 - hp_ex σ)) := by
  have hup := hp_lift_up (M := M) (C := C) (h := h) (ta := ta) (lo := lo) n r σ hbg
  have hsu := hp_sh_up hup
  have hqw := hp_lift_qw (M := M) (C := C) (h := h) (ta := ta) (lo := lo) n r σ hn6 hmr
  obtain ⟨ql, hql⟩ : ∃ ql, ql = hp_lift M C h ta lo n r σ := ⟨_, rfl⟩
  have hLr := hL r σ br lm
  rw [← hql] at hup hsu hqw hnn hLr ⊢
  refine hr_methH (by decide) (Nat.le_of_ble_eq_true rfl) Z h0 ?_
  intro p e s m0 below meth c ls X hr hlk htab hadm hsz hC hl
  have hl : lv_has ls 4 [(0, _), (1, _)] := hl
  have hS := hr_S0 (s := s) (lo := b) (n := 20)
  have hreg := hr_reg (lo := b) (n := 20) (sz := s.heap.size)
  have hle : hp_ex σ ≤ hp_ex ql.2 := hup.2.1
  have hle2 : hp_ex (hp_sh ql).2 = hp_ex ql.2 := hsu.2.2
  refine lv_iconst (v := 0) X.ex X.by dX0_sheltered_0 (by decide) ?_
  refine lv_istore_n X.ex X.by dX0_sheltered_1 rfl hl (by decide) rfl (fun ls hl => ?_)
  have hl : lv_has ls 4 [(2, _), (0, _), (1, _)] := hl
  refine lv_aload_n X.ex X.by dX0_sheltered_2 rfl (lv_at hl 1 rfl) ?_
  refine lv_iload_n X.ex X.by dX0_sheltered_3 rfl (lv_at hl 2 rfl) ?_
  refine hr_callO (As := [.int (nI r)]) X (hLr s.heap.size hr8 hbg hmr (Nat.le_trans hsu.2.1 hnn) (by omega)) v_X0_lift hg_L hS hreg (hr_cG.recv X hC) hC rfl rfl (hr_lR2 (by decide) ⟨by show 3 * n + 10 + 1 ≤ 3 * n + 11; omega, by show 40 * (3 * n + 10 + 1) + 10300 ≤ 40 * (3 * n + 11) + 10300; omega⟩) hl.1 rfl (Nat.le_of_ble_eq_true rfl) ⟨by show 0 + 3 * (hp_ex ql.2 - hp_ex σ) ≤ 3 * (hp_ex (hp_sh ql).2 - hp_ex σ); omega, by show 0 + 44 * (hp_ex ql.2 - hp_ex σ) ≤ 44 * (hp_ex (hp_sh ql).2 - hp_ex σ); omega⟩ dX0_sheltered_4 (fun hq H locs hC hS hkp => ?_) (fun x a hq H locs hE hC hS hkp => ?_)
  · have eq : hp_sh ql = (none, ql.2) := by
      obtain ⟨o, τ⟩ := ql
      cases hq
      rfl
    rw [eq]
    refine lv_goto (tgt := 40) X.ex X.by dX0_sheltered_7 (by decide) ?_
    refine lv_iload_n X.ex X.by dX0_sheltered_40 rfl (lv_at hl 0 rfl) ?_
    refine lv_if_le (tgt := 60) X.ex X.by dX0_sheltered_41 (by decide) (fun _ => ?_) (fun c_41 => absurd (by decide : (0 : Int32) ≤ 0) c_41)
    exact hr_vret X hr hlk hS (Or.inl ⟨rfl, rfl, hC⟩) (by show 0 + 3 * (hp_ex ql.2 - hp_ex σ) ≤ 3 * (hp_ex ql.2 - hp_ex σ); omega) (by show 0 + 44 * (hp_ex ql.2 - hp_ex σ) ≤ 44 * (hp_ex ql.2 - hp_ex σ); omega) dX0_sheltered_60
  · have hxc := hE.xc X
    rcases hp_xw_cases (hqw.1 x hq) with ⟨h7, hnil, ez⟩ | ⟨h7, hcl⟩
    · have eq : hp_sh ql = (some x, ql.2) := by
        obtain ⟨o, τ⟩ := ql
        cases hq
        unfold hp_sh; dsimp only; rw [if_pos h7]
      rw [eq]
      rw [ez] at hxc
      exact hr_leave X hlk htab hr_rwS (k := 2) (by decide) hxc (by decide) hS (Or.inr ⟨x, a, rfl, rfl, hE, hC⟩) (by show 0 + 3 * (hp_ex ql.2 - hp_ex σ) ≤ 3 * (hp_ex ql.2 - hp_ex σ); omega) (by show 0 + 44 * (hp_ex ql.2 - hp_ex σ) ≤ 44 * (hp_ex ql.2 - hp_ex σ); omega)
    · have eq : hp_sh ql = (none, hp_add (nI (hp_code x)) (hp_wr 7 ql.2)) := by
        obtain ⟨o, τ⟩ := ql
        cases hq
        unfold hp_sh; dsimp only; rw [if_neg h7]
      rw [eq] at hnn ⊢
      have hn1 : hp_n ql.2 + 1 ≤ 2800 := hnn
      obtain ⟨kv, hkv⟩ : ∃ kv, kv = nI (hp_code x) := ⟨_, rfl⟩
      -- behind the handlers
      have fin : ∀ (H : Heap) (locs : List Loc) (ls : Array Slot), hr_cG D g b z M C h ta lo f (nI (6 - n)) (nI (6 - n)) br lm ql.2 H → va_S (hr_A b 20 s.heap.size) s.heap H locs → lv_has ls 4 [(2, .int (nI (hp_code x))), (0, .ref b)] → W p l e (hr_R (3 * n + 11) (3 * (hp_ex (hp_add (nI (hp_code x)) (hp_wr 7 ql.2)) - hp_ex σ)) (44 * (hp_ex (hp_add (nI (hp_code x)) (hp_wr 7 ql.2)) - hp_ex σ))) s m0 [.ref b, .int (nI r)].toArray below meth c H locs (0 + 3 * (hp_ex ql.2 - hp_ex σ)) (0 + 44 * (hp_ex ql.2 - hp_ex σ)) (hr_Q below (hr_Qc b 20 (hr_out D s0 z (fun τ H => hr_cG D g b z M C h ta lo f (nI (6 - n)) (nI (6 - n)) br lm τ H) (none, hp_add (nI (hp_code x)) (hp_wr 7 ql.2)))) [.ref b, .int (nI r)].toArray s (3 * (hp_ex (hp_add (nI (hp_code x)) (hp_wr 7 ql.2)) - hp_ex σ)) (44 * (hp_ex (hp_add (nI (hp_code x)) (hp_wr 7 ql.2)) - hp_ex σ)) (hr_A b 20 s.heap.size)) (F0 m0 40 ls []) := by
        intro H locs ls hC hS hl
        have hpos : 1 ≤ hp_code x ∧ hp_code x ≤ 7 := by
          unfold hp_code
          split
          · have := hqw.1 x hq
            unfold hp_xw at this
            omega
          · omega
        refine lv_iload_n X.ex X.by dX0_sheltered_40 rfl (lv_at hl 0 rfl) ?_
        refine lv_if_le (tgt := 60) X.ex X.by dX0_sheltered_41 (by decide) (fun c_41 => absurd c_41 (nI_nle (by omega) (by omega))) (fun _ => ?_)
        refine lv_aload_n X.ex X.by dX0_sheltered_44 rfl (lv_at hl 1 rfl) ?_
        refine lv_bipush (v := 7) X.ex X.by dX0_sheltered_45 (by decide) ?_
        refine c_X0_write X hC (by omega) hS hreg ⟨by show 1 ≤ 3 * n + 11; omega, by show 40 ≤ 40 * (3 * n + 11) + 10300; omega⟩ ⟨by show 0 + 3 * (hp_ex ql.2 - hp_ex σ) ≤ 3 * (hp_ex ql.2 - hp_ex σ); omega, by show 0 + 44 * (hp_ex ql.2 - hp_ex σ) ≤ 44 * (hp_ex ql.2 - hp_ex σ); omega⟩ hl.1 (Nat.le_of_ble_eq_true rfl) dX0_sheltered_47 (fun H locs hC hS hk => ?_)
        refine lv_aload_n X.ex X.by dX0_sheltered_50 rfl (lv_at hl 1 rfl) ?_
        refine lv_dup X.ex X.by dX0_sheltered_51 rfl ?_
        refine hr_cget X hC 4 (by decide) rfl q71 dX0_sheltered_52 ?_
        refine lv_iload_n X.ex X.by dX0_sheltered_55 rfl (lv_at hl 0 rfl) ?_
        refine lv_iadd X.ex X.by dX0_sheltered_56 ?_
        refine hr_cput X hC hS hreg 4 (by decide) (Nat.le_of_ble_eq_true rfl) rfl rfl q71 dX0_sheltered_57 (fun H locs hC hS hk => ?_)
        exact hr_vret X hr hlk hS (Or.inl ⟨rfl, rfl, hC⟩) (by show 0 + 3 * (hp_ex ql.2 - hp_ex σ) ≤ 3 * (hp_ex ql.2 - hp_ex σ); omega) (by show 0 + 44 * (hp_ex ql.2 - hp_ex σ) ≤ 44 * (hp_ex ql.2 - hp_ex σ); omega) dX0_sheltered_60
      rcases hcl with ⟨ez, hnil, hk⟩ | ⟨ez, hnn9⟩ | ⟨ez, hnil, hk⟩ | ⟨ez, hnil, hk⟩ | ⟨ez, hnil, hk⟩
      · rw [ez] at hxc
        refine hr_catch X htab hr_rwS (k := 0) (by decide) hxc (hpc := 10) (by decide) ?_
        refine lv_astore_n X.ex X.by dX0_sheltered_10 rfl hl (by decide) rfl (fun ls hl => ?_)
        have hl : lv_has ls 4 [(3, _), (2, _), (0, _), (1, _)] := hl
        have hkc : hp_code x = x.1 := by unfold hp_code; rw [if_pos hnil]
        rw [hnil] at hE
        obtain ⟨fs, f1, f2⟩ := hE.2.2 (by rcases hk with hk | hk <;> (rw [hk]; rfl))
        refine lv_aload_n X.ex X.by dX0_sheltered_11 rfl (lv_at hl 0 rfl) ?_
        refine hr_getN X hr_i4 f1 6 (by decide) f2 q316 dX0_sheltered_12 ?_
        rw [← hkc]
        refine lv_istore_n X.ex X.by dX0_sheltered_15 rfl hl (by decide) rfl (fun ls hl => ?_)
        have hl : lv_has ls 4 [(2, _), (3, _), (0, _), (1, _)] := hl
        refine lv_goto (tgt := 40) X.ex X.by dX0_sheltered_16 (by decide) ?_
        exact fin H locs ls hC hS (lv_sub hl [0, 2] rfl)
      · rw [ez] at hxc
        refine hr_catch X htab hr_rwS (k := 1) (by decide) hxc (hpc := 19) (by decide) ?_
        refine lv_astore_n X.ex X.by dX0_sheltered_19 rfl hl (by decide) rfl (fun ls hl => ?_)
        have hl : lv_has ls 4 [(3, _), (2, _), (0, _), (1, _)] := hl
        have hkc : nI (hp_code x) = 5 := by unfold hp_code; rw [if_neg hnn9]; rfl
        refine lv_iconst (v := 5) X.ex X.by dX0_sheltered_20 (by decide) ?_
        rw [← hkc]
        refine lv_istore_n X.ex X.by dX0_sheltered_21 rfl hl (by decide) rfl (fun ls hl => ?_)
        have hl : lv_has ls 4 [(2, _), (3, _), (0, _), (1, _)] := hl
        refine lv_goto (tgt := 40) X.ex X.by dX0_sheltered_22 (by decide) ?_
        exact fin H locs ls hC hS (lv_sub hl [0, 2] rfl)
      · rw [ez] at hxc
        refine hr_catch X htab hr_rwS (k := 3) (by decide) hxc (hpc := 25) (by decide) ?_
        refine lv_astore_n X.ex X.by dX0_sheltered_25 rfl hl (by decide) rfl (fun ls hl => ?_)
        have hl : lv_has ls 4 [(3, _), (2, _), (0, _), (1, _)] := hl
        have hkc : nI (hp_code x) = 2 := by unfold hp_code; rw [if_pos hnil, hk]; rfl
        refine lv_iconst (v := 2) X.ex X.by dX0_sheltered_26 (by decide) ?_
        rw [← hkc]
        refine lv_istore_n X.ex X.by dX0_sheltered_27 rfl hl (by decide) rfl (fun ls hl => ?_)
        have hl : lv_has ls 4 [(2, _), (3, _), (0, _), (1, _)] := hl
        refine lv_goto (tgt := 40) X.ex X.by dX0_sheltered_28 (by decide) ?_
        exact fin H locs ls hC hS (lv_sub hl [0, 2] rfl)
      · rw [ez] at hxc
        refine hr_catch X htab hr_rwS (k := 4) (by decide) hxc (hpc := 31) (by decide) ?_
        refine lv_astore_n X.ex X.by dX0_sheltered_31 rfl hl (by decide) rfl (fun ls hl => ?_)
        have hl : lv_has ls 4 [(3, _), (2, _), (0, _), (1, _)] := hl
        have hkc : nI (hp_code x) = 3 := by unfold hp_code; rw [if_pos hnil, hk]; rfl
        refine lv_iconst (v := 3) X.ex X.by dX0_sheltered_32 (by decide) ?_
        rw [← hkc]
        refine lv_istore_n X.ex X.by dX0_sheltered_33 rfl hl (by decide) rfl (fun ls hl => ?_)
        have hl : lv_has ls 4 [(2, _), (3, _), (0, _), (1, _)] := hl
        refine lv_goto (tgt := 40) X.ex X.by dX0_sheltered_34 (by decide) ?_
        exact fin H locs ls hC hS (lv_sub hl [0, 2] rfl)
      · rw [ez] at hxc
        refine hr_catch X htab hr_rwS (k := 5) (by decide) hxc (hpc := 37) (by decide) ?_
        refine lv_astore_n X.ex X.by dX0_sheltered_37 rfl hl (by decide) rfl (fun ls hl => ?_)
        have hl : lv_has ls 4 [(3, _), (2, _), (0, _), (1, _)] := hl
        have hkc : nI (hp_code x) = 4 := by unfold hp_code; rw [if_pos hnil, hk]; rfl
        refine lv_iconst (v := 4) X.ex X.by dX0_sheltered_38 (by decide) ?_
        rw [← hkc]
        refine lv_istore_n X.ex X.by dX0_sheltered_39 rfl hl (by decide) rfl (fun ls hl => ?_)
        have hl : lv_has ls 4 [(2, _), (3, _), (0, _), (1, _)] := hl
        exact fin H locs ls hC hS (lv_sub hl [0, 2] rfl)
theorem hp_sub_nI {c z : Int32} (hz : z = 1000 ∨ z = 2000 ∨ z = 3000) (hc : hp_ok c) (h1 : z ≤ c) : c - z = nI (c - z).toNatClampNeg := by
  refine (hp_nI ?_).symm
  have hi := hp_ok_int hc
  have e1 : (1000 : Int32).toInt = 1000 := by decide
  have e2 : (2000 : Int32).toInt = 2000 := by decide
  have e3 : (3000 : Int32).toInt = 3000 := by decide
  have e0 : (0 : Int32).toInt = 0 := by decide
  rw [hp_le] at h1 ⊢
  rcases hz with rfl | rfl | rfl <;> (rw [hp_sub_int (by omega) (by omega)]; omega)
set_option maxHeartbeats 4000000 in
theorem k_X0_work (l : Launch) {s0 : State} {D : va_G} {g : ClassId × ClassId × ClassId} (Z : hr_Z s0 D g) {b z : Nat} (h0 : s0.heap.size ≤ b) {M : Nat → Nat} {C : Nat → Nat → Int32} {h : Nat → Int32} {ta lo : Int32} {f : Int32 × Int32 × Int32 × Int32} {n : Nat} (hn6 : n ≤ 6) (hL : hr_CL l s0 D g b z M C h ta lo f n) (hfl : l.flags = flags0) {c1 : Int32} {σ : hp_S} {br lm : Int32} (hok : hp_ok c1) (w2 : ¬ c1 = -2) (w3 : ¬ c1 = -3) (w4 : ¬ c1 = -4) (hbg : hp_bg σ ≤ 300) (hmr : σ.2.2.1 ≤ 6) (hnn : hp_n (hp_work (hp_lift M C h ta lo n) h ta lo c1 σ).2 ≤ 2800) {sz : Nat} (hzz : z ≤ sz) : hr_C l yX0_work (ws_ yX0_work cX0_work 2 none) (hr_R (3 * n + 12) (3 * (hp_ex (hp_work (hp_lift M C h ta lo n) h ta lo c1 σ).2 - hp_ex σ)) (44 * (hp_ex (hp_work (hp_lift M C h ta lo n) h ta lo c1 σ).2 - hp_ex σ))) s0 b 20 sz [.ref b, .int c1] (fun H => hr_cG D g b z M C h ta lo f (nI (6 - n)) (nI (6 - n)) br lm σ H) (hr_out D s0 z (fun τ H => hr_cG D g b z M C h ta lo f (nI (6 - n)) (nI (6 - n)) br lm τ H) (hp_work (hp_lift M C h ta lo n) h ta lo c1 σ)) (3 * (hp_ex (hp_work (hp_lift M C h ta lo n) h ta lo c1 σ).2 - hp_ex σ)) (44 * (hp_ex (hp_work (hp_lift M C h ta lo n) h ta lo c1 σ).2 - hp_ex σ)) := by
  rw [hp_work_eq] at hnn ⊢
  by_cases c3 : 3000 ≤ c1
  · rw [if_pos c3] at hnn ⊢
    have hle1 : 1000 ≤ c1 := Int32.le_trans (by decide) c3
    have hrk := hp_rack hok hle1
    have hr8 : (c1 - 3000).toNatClampNeg < 8 := by
      have h9 := hrk.1 c3
      omega
    have er : c1 - 3000 = nI (c1 - 3000).toNatClampNeg := hp_sub_nI (by simp) hok c3
    generalize (c1 - 3000).toNatClampNeg = r at hr8 er hnn ⊢
    refine hr_meth (by decide) (Nat.le_of_ble_eq_true rfl) Z h0 ?_
    intro p e s m0 below meth c ls X hr hlk hnm htab hadm hsz hC hl
    have hl : lv_has ls 2 [(0, _), (1, _)] := hl
    have hS := hr_S0 (s := s) (lo := b) (n := 20)
    have hreg := hr_reg (lo := b) (n := 20) (sz := s.heap.size)
    refine lv_iload_n X.ex X.by dX0_work_0 rfl (lv_at hl 1 rfl) ?_
    refine lv_sipush (v := 3000) X.ex X.by dX0_work_1 (by decide) ?_
    refine lv_icmp_lt (tgt := 19) X.ex X.by dX0_work_4 (by decide) (fun c_4 => absurd c_4 (Int32.not_lt.mpr c3)) (fun c_4 => ?_)
    refine lv_aload_n X.ex X.by dX0_work_7 rfl (lv_at hl 0 rfl) ?_
    refine lv_iload_n X.ex X.by dX0_work_8 rfl (lv_at hl 1 rfl) ?_
    refine lv_sipush (v := 3000) X.ex X.by dX0_work_9 (by decide) ?_
    refine lv_isub X.ex X.by dX0_work_12 ?_
    rw [er]
    have hcon := k_X0_sheltered l X.2.1 h0 hn6 hL r (br := br) (lm := lm) hr8 hbg hmr hnn (sz := s.heap.size) (by omega)
    refine hr_callO (As := [.int (nI r)]) X hcon v_X0_sheltered hg_S hS hreg (hr_cG.recv X hC) hC rfl rfl (hr_lR2 (by decide) ⟨by show 3 * n + 11 + 1 ≤ 3 * n + 12; omega, by show 40 * (3 * n + 11 + 1) + 10300 ≤ 40 * (3 * n + 12) + 10300; omega⟩) hl.1 rfl (Nat.le_of_ble_eq_true rfl) ⟨by show 0 + 3 * (hp_ex (hp_sh (hp_lift M C h ta lo n r σ)).2 - hp_ex σ) ≤ 3 * (hp_ex (hp_sh (hp_lift M C h ta lo n r σ)).2 - hp_ex σ); omega, by show 0 + 44 * (hp_ex (hp_sh (hp_lift M C h ta lo n r σ)).2 - hp_ex σ) ≤ 44 * (hp_ex (hp_sh (hp_lift M C h ta lo n r σ)).2 - hp_ex σ); omega⟩ dX0_work_13 (fun hq H locs hC hS hkp => ?_) (fun x a hq H locs hE hC hS hkp => ?_)
    · refine lv_goto (tgt := 119) X.ex X.by dX0_work_16 (by decide) ?_
      exact hr_vret X hr hlk hS (Or.inl ⟨hq, rfl, hC⟩) (by show 0 + 3 * (hp_ex (hp_sh (hp_lift M C h ta lo n r σ)).2 - hp_ex σ) ≤ 3 * (hp_ex (hp_sh (hp_lift M C h ta lo n r σ)).2 - hp_ex σ); omega) (by show 0 + 44 * (hp_ex (hp_sh (hp_lift M C h ta lo n r σ)).2 - hp_ex σ) ≤ 44 * (hp_ex (hp_sh (hp_lift M C h ta lo n r σ)).2 - hp_ex σ); omega) dX0_work_119
    · exact hr_leave X hlk (hh := []) (by rw [htab]; rfl) hr_rwN (hr_xz_lt x) (hE.xc X) rfl hS (Or.inr ⟨x, a, hq, rfl, hE, hC⟩) (by show 0 + 3 * (hp_ex (hp_sh (hp_lift M C h ta lo n r σ)).2 - hp_ex σ) ≤ 3 * (hp_ex (hp_sh (hp_lift M C h ta lo n r σ)).2 - hp_ex σ); omega) (by show 0 + 44 * (hp_ex (hp_sh (hp_lift M C h ta lo n r σ)).2 - hp_ex σ) ≤ 44 * (hp_ex (hp_sh (hp_lift M C h ta lo n r σ)).2 - hp_ex σ); omega)
  by_cases c2 : 2000 ≤ c1
  · rw [if_neg c3, if_pos c2] at hnn ⊢
    have hle1 : 1000 ≤ c1 := Int32.le_trans (by decide) c2
    have hrk := hp_rack hok hle1
    have hr8 : (c1 - 2000).toNatClampNeg < 8 := by
      have h9 := hrk.2.1 c3 c2
      omega
    have er : c1 - 2000 = nI (c1 - 2000).toNatClampNeg := hp_sub_nI (by simp) hok c2
    generalize (c1 - 2000).toNatClampNeg = r at hr8 er hnn ⊢
    refine hr_meth (by decide) (Nat.le_of_ble_eq_true rfl) Z h0 ?_
    intro p e s m0 below meth c ls X hr hlk hnm htab hadm hsz hC hl
    have hl : lv_has ls 2 [(0, _), (1, _)] := hl
    have hS := hr_S0 (s := s) (lo := b) (n := 20)
    have hreg := hr_reg (lo := b) (n := 20) (sz := s.heap.size)
    refine lv_iload_n X.ex X.by dX0_work_0 rfl (lv_at hl 1 rfl) ?_
    refine lv_sipush (v := 3000) X.ex X.by dX0_work_1 (by decide) ?_
    refine lv_icmp_lt (tgt := 19) X.ex X.by dX0_work_4 (by decide) (fun c_4 => ?_) (fun c_4 => absurd (Int32.not_le.mp c3) c_4)
    refine lv_iload_n X.ex X.by dX0_work_19 rfl (lv_at hl 1 rfl) ?_
    refine lv_sipush (v := 2000) X.ex X.by dX0_work_20 (by decide) ?_
    refine lv_icmp_lt (tgt := 38) X.ex X.by dX0_work_23 (by decide) (fun c_23 => absurd c_23 (Int32.not_lt.mpr c2)) (fun c_23 => ?_)
    refine lv_aload_n X.ex X.by dX0_work_26 rfl (lv_at hl 0 rfl) ?_
    refine lv_iload_n X.ex X.by dX0_work_27 rfl (lv_at hl 1 rfl) ?_
    refine lv_sipush (v := 2000) X.ex X.by dX0_work_28 (by decide) ?_
    refine lv_isub X.ex X.by dX0_work_31 ?_
    rw [er]
    have hcon := k_X0_guarded l X.2.1 h0 hn6 hL r (br := br) (lm := lm) hr8 hbg hmr hnn (sz := s.heap.size) (by omega)
    refine hr_callO (As := [.int (nI r)]) X hcon v_X0_guarded hg_G hS hreg (hr_cG.recv X hC) hC rfl rfl (hr_lR2 (by decide) ⟨by show 3 * n + 11 + 1 ≤ 3 * n + 12; omega, by show 40 * (3 * n + 11 + 1) + 10300 ≤ 40 * (3 * n + 12) + 10300; omega⟩) hl.1 rfl (Nat.le_of_ble_eq_true rfl) ⟨by show 0 + 3 * (hp_ex (hp_gd r (hp_lift M C h ta lo n r σ)).2 - hp_ex σ) ≤ 3 * (hp_ex (hp_gd r (hp_lift M C h ta lo n r σ)).2 - hp_ex σ); omega, by show 0 + 44 * (hp_ex (hp_gd r (hp_lift M C h ta lo n r σ)).2 - hp_ex σ) ≤ 44 * (hp_ex (hp_gd r (hp_lift M C h ta lo n r σ)).2 - hp_ex σ); omega⟩ dX0_work_32 (fun hq H locs hC hS hkp => ?_) (fun x a hq H locs hE hC hS hkp => ?_)
    · refine lv_goto (tgt := 119) X.ex X.by dX0_work_35 (by decide) ?_
      exact hr_vret X hr hlk hS (Or.inl ⟨hq, rfl, hC⟩) (by show 0 + 3 * (hp_ex (hp_gd r (hp_lift M C h ta lo n r σ)).2 - hp_ex σ) ≤ 3 * (hp_ex (hp_gd r (hp_lift M C h ta lo n r σ)).2 - hp_ex σ); omega) (by show 0 + 44 * (hp_ex (hp_gd r (hp_lift M C h ta lo n r σ)).2 - hp_ex σ) ≤ 44 * (hp_ex (hp_gd r (hp_lift M C h ta lo n r σ)).2 - hp_ex σ); omega) dX0_work_119
    · exact hr_leave X hlk (hh := []) (by rw [htab]; rfl) hr_rwN (hr_xz_lt x) (hE.xc X) rfl hS (Or.inr ⟨x, a, hq, rfl, hE, hC⟩) (by show 0 + 3 * (hp_ex (hp_gd r (hp_lift M C h ta lo n r σ)).2 - hp_ex σ) ≤ 3 * (hp_ex (hp_gd r (hp_lift M C h ta lo n r σ)).2 - hp_ex σ); omega) (by show 0 + 44 * (hp_ex (hp_gd r (hp_lift M C h ta lo n r σ)).2 - hp_ex σ) ≤ 44 * (hp_ex (hp_gd r (hp_lift M C h ta lo n r σ)).2 - hp_ex σ); omega)
  by_cases c1k : 1000 ≤ c1
  · rw [if_neg c3, if_neg c2, if_pos c1k] at hnn ⊢
    have hle1 : 1000 ≤ c1 := c1k
    have hrk := hp_rack hok hle1
    have hr8 : (c1 - 1000).toNatClampNeg < 8 := by
      have h9 := hrk.2.2 c3 c2
      omega
    have er : c1 - 1000 = nI (c1 - 1000).toNatClampNeg := hp_sub_nI (by simp) hok c1k
    generalize (c1 - 1000).toNatClampNeg = r at hr8 er hnn ⊢
    refine hr_meth (by decide) (Nat.le_of_ble_eq_true rfl) Z h0 ?_
    intro p e s m0 below meth c ls X hr hlk hnm htab hadm hsz hC hl
    have hl : lv_has ls 2 [(0, _), (1, _)] := hl
    have hS := hr_S0 (s := s) (lo := b) (n := 20)
    have hreg := hr_reg (lo := b) (n := 20) (sz := s.heap.size)
    refine lv_iload_n X.ex X.by dX0_work_0 rfl (lv_at hl 1 rfl) ?_
    refine lv_sipush (v := 3000) X.ex X.by dX0_work_1 (by decide) ?_
    refine lv_icmp_lt (tgt := 19) X.ex X.by dX0_work_4 (by decide) (fun c_4 => ?_) (fun c_4 => absurd (Int32.not_le.mp c3) c_4)
    refine lv_iload_n X.ex X.by dX0_work_19 rfl (lv_at hl 1 rfl) ?_
    refine lv_sipush (v := 2000) X.ex X.by dX0_work_20 (by decide) ?_
    refine lv_icmp_lt (tgt := 38) X.ex X.by dX0_work_23 (by decide) (fun c_23 => ?_) (fun c_23 => absurd (Int32.not_le.mp c2) c_23)
    refine lv_iload_n X.ex X.by dX0_work_38 rfl (lv_at hl 1 rfl) ?_
    refine lv_sipush (v := 1000) X.ex X.by dX0_work_39 (by decide) ?_
    refine lv_icmp_lt (tgt := 57) X.ex X.by dX0_work_42 (by decide) (fun c_42 => absurd c_42 (Int32.not_lt.mpr c1k)) (fun c_42 => ?_)
    refine lv_aload_n X.ex X.by dX0_work_45 rfl (lv_at hl 0 rfl) ?_
    refine lv_iload_n X.ex X.by dX0_work_46 rfl (lv_at hl 1 rfl) ?_
    refine lv_sipush (v := 1000) X.ex X.by dX0_work_47 (by decide) ?_
    refine lv_isub X.ex X.by dX0_work_50 ?_
    rw [er]
    have hcon := hL r σ br lm s.heap.size hr8 hbg hmr hnn (by omega)
    refine hr_callO (As := [.int (nI r)]) X hcon v_X0_lift hg_L hS hreg (hr_cG.recv X hC) hC rfl rfl (hr_lR2 (by decide) ⟨by show 3 * n + 10 + 1 ≤ 3 * n + 12; omega, by show 40 * (3 * n + 10 + 1) + 10300 ≤ 40 * (3 * n + 12) + 10300; omega⟩) hl.1 rfl (Nat.le_of_ble_eq_true rfl) ⟨by show 0 + 3 * (hp_ex (hp_lift M C h ta lo n r σ).2 - hp_ex σ) ≤ 3 * (hp_ex (hp_lift M C h ta lo n r σ).2 - hp_ex σ); omega, by show 0 + 44 * (hp_ex (hp_lift M C h ta lo n r σ).2 - hp_ex σ) ≤ 44 * (hp_ex (hp_lift M C h ta lo n r σ).2 - hp_ex σ); omega⟩ dX0_work_51 (fun hq H locs hC hS hkp => ?_) (fun x a hq H locs hE hC hS hkp => ?_)
    · refine lv_goto (tgt := 119) X.ex X.by dX0_work_54 (by decide) ?_
      exact hr_vret X hr hlk hS (Or.inl ⟨hq, rfl, hC⟩) (by show 0 + 3 * (hp_ex (hp_lift M C h ta lo n r σ).2 - hp_ex σ) ≤ 3 * (hp_ex (hp_lift M C h ta lo n r σ).2 - hp_ex σ); omega) (by show 0 + 44 * (hp_ex (hp_lift M C h ta lo n r σ).2 - hp_ex σ) ≤ 44 * (hp_ex (hp_lift M C h ta lo n r σ).2 - hp_ex σ); omega) dX0_work_119
    · exact hr_leave X hlk (hh := []) (by rw [htab]; rfl) hr_rwN (hr_xz_lt x) (hE.xc X) rfl hS (Or.inr ⟨x, a, hq, rfl, hE, hC⟩) (by show 0 + 3 * (hp_ex (hp_lift M C h ta lo n r σ).2 - hp_ex σ) ≤ 3 * (hp_ex (hp_lift M C h ta lo n r σ).2 - hp_ex σ); omega) (by show 0 + 44 * (hp_ex (hp_lift M C h ta lo n r σ).2 - hp_ex σ) ≤ 44 * (hp_ex (hp_lift M C h ta lo n r σ).2 - hp_ex σ); omega)
  by_cases c0 : 0 < c1
  · by_cases hz : c1 - ta = 0
    · rw [if_neg c3, if_neg c2, if_neg c1k, if_pos c0, if_pos hz] at hnn ⊢
      have hx1 : hp_ex (hp_exc σ) = hp_ex σ + 1 := rfl
      refine hr_meth (by decide) (Nat.le_of_ble_eq_true rfl) Z h0 ?_
      intro p e s m0 below meth c ls X hr hlk hnm htab hadm hsz hC hl
      have hl : lv_has ls 2 [(0, _), (1, _)] := hl
      have hS := hr_S0 (s := s) (lo := b) (n := 20)
      have hreg := hr_reg (lo := b) (n := 20) (sz := s.heap.size)
      refine lv_iload_n X.ex X.by dX0_work_0 rfl (lv_at hl 1 rfl) ?_
      refine lv_sipush (v := 3000) X.ex X.by dX0_work_1 (by decide) ?_
      refine lv_icmp_lt (tgt := 19) X.ex X.by dX0_work_4 (by decide) (fun c_4 => ?_) (fun c_4 => absurd (Int32.not_le.mp c3) c_4)
      refine lv_iload_n X.ex X.by dX0_work_19 rfl (lv_at hl 1 rfl) ?_
      refine lv_sipush (v := 2000) X.ex X.by dX0_work_20 (by decide) ?_
      refine lv_icmp_lt (tgt := 38) X.ex X.by dX0_work_23 (by decide) (fun c_23 => ?_) (fun c_23 => absurd (Int32.not_le.mp c2) c_23)
      refine lv_iload_n X.ex X.by dX0_work_38 rfl (lv_at hl 1 rfl) ?_
      refine lv_sipush (v := 1000) X.ex X.by dX0_work_39 (by decide) ?_
      refine lv_icmp_lt (tgt := 57) X.ex X.by dX0_work_42 (by decide) (fun c_42 => ?_) (fun c_42 => absurd (Int32.not_le.mp c1k) c_42)
      refine lv_iload_n X.ex X.by dX0_work_57 rfl (lv_at hl 1 rfl) ?_
      refine lv_if_le (tgt := 84) X.ex X.by dX0_work_58 (by decide) (fun c_58 => absurd c_58 (Int32.not_le.mpr c0)) (fun c_58 => ?_)
      refine lv_aload_n X.ex X.by dX0_work_61 rfl (lv_at hl 0 rfl) ?_
      refine lv_dup X.ex X.by dX0_work_62 rfl ?_
      refine hr_cget X hC 4 (by decide) rfl q71 dX0_work_63 ?_
      refine lv_aload_n X.ex X.by dX0_work_66 rfl (lv_at hl 0 rfl) ?_
      refine hr_cget X hC 3 (by decide) rfl q70 dX0_work_67 ?_
      refine lv_iload_n X.ex X.by dX0_work_70 rfl (lv_at hl 1 rfl) ?_
      refine lv_aload_n X.ex X.by dX0_work_71 rfl (lv_at hl 0 rfl) ?_
      refine hr_cget X hC 2 (by decide) rfl q69 dX0_work_72 ?_
      refine lv_isub X.ex X.by dX0_work_75 ?_
      rw [hz]
      exact hr_idiv0 X hfl hlk htab hl.1 (Nat.le_of_ble_eq_true rfl) ⟨by show 8 ≤ 3 * n + 12; omega, by show 10300 ≤ 40 * (3 * n + 12) + 10300; omega⟩ ⟨by show 3 ≤ 3 * (hp_ex (hp_exc σ) - hp_ex σ); omega, by show 44 ≤ 44 * (hp_ex (hp_exc σ) - hp_ex σ); omega⟩ (by show 3 ≤ 3 * (hp_ex (hp_exc σ) - hp_ex σ); omega) (by show 44 ≤ 44 * (hp_ex (hp_exc σ) - hp_ex σ); omega) (fun H1 hq hxo hlt => Or.inr ⟨(2, []), _, rfl, rfl, ⟨by omega, (by rw [if_neg (by decide)]; exact hxo), fun h9 => absurd h9 (by decide)⟩, hr_cw.keptN hC hq⟩) dX0_work_76
    · rw [if_neg c3, if_neg c2, if_neg c1k, if_pos c0, if_neg hz] at hnn ⊢
      refine hr_meth (by decide) (Nat.le_of_ble_eq_true rfl) Z h0 ?_
      intro p e s m0 below meth c ls X hr hlk hnm htab hadm hsz hC hl
      have hl : lv_has ls 2 [(0, _), (1, _)] := hl
      have hS := hr_S0 (s := s) (lo := b) (n := 20)
      have hreg := hr_reg (lo := b) (n := 20) (sz := s.heap.size)
      refine lv_iload_n X.ex X.by dX0_work_0 rfl (lv_at hl 1 rfl) ?_
      refine lv_sipush (v := 3000) X.ex X.by dX0_work_1 (by decide) ?_
      refine lv_icmp_lt (tgt := 19) X.ex X.by dX0_work_4 (by decide) (fun c_4 => ?_) (fun c_4 => absurd (Int32.not_le.mp c3) c_4)
      refine lv_iload_n X.ex X.by dX0_work_19 rfl (lv_at hl 1 rfl) ?_
      refine lv_sipush (v := 2000) X.ex X.by dX0_work_20 (by decide) ?_
      refine lv_icmp_lt (tgt := 38) X.ex X.by dX0_work_23 (by decide) (fun c_23 => ?_) (fun c_23 => absurd (Int32.not_le.mp c2) c_23)
      refine lv_iload_n X.ex X.by dX0_work_38 rfl (lv_at hl 1 rfl) ?_
      refine lv_sipush (v := 1000) X.ex X.by dX0_work_39 (by decide) ?_
      refine lv_icmp_lt (tgt := 57) X.ex X.by dX0_work_42 (by decide) (fun c_42 => ?_) (fun c_42 => absurd (Int32.not_le.mp c1k) c_42)
      refine lv_iload_n X.ex X.by dX0_work_57 rfl (lv_at hl 1 rfl) ?_
      refine lv_if_le (tgt := 84) X.ex X.by dX0_work_58 (by decide) (fun c_58 => absurd c_58 (Int32.not_le.mpr c0)) (fun c_58 => ?_)
      refine lv_aload_n X.ex X.by dX0_work_61 rfl (lv_at hl 0 rfl) ?_
      refine lv_dup X.ex X.by dX0_work_62 rfl ?_
      refine hr_cget X hC 4 (by decide) rfl q71 dX0_work_63 ?_
      refine lv_aload_n X.ex X.by dX0_work_66 rfl (lv_at hl 0 rfl) ?_
      refine hr_cget X hC 3 (by decide) rfl q70 dX0_work_67 ?_
      refine lv_iload_n X.ex X.by dX0_work_70 rfl (lv_at hl 1 rfl) ?_
      refine lv_aload_n X.ex X.by dX0_work_71 rfl (lv_at hl 0 rfl) ?_
      refine hr_cget X hC 2 (by decide) rfl q69 dX0_work_72 ?_
      refine lv_isub X.ex X.by dX0_work_75 ?_
      refine lv_idiv X.ex X.by dX0_work_76 hz ?_
      refine lv_iadd X.ex X.by dX0_work_77 ?_
      refine hr_cput X hC hS hreg 4 (by decide) (Nat.le_of_ble_eq_true rfl) rfl rfl q71 dX0_work_78 (fun H locs hC hS _ => ?_)
      refine lv_goto (tgt := 119) X.ex X.by dX0_work_81 (by decide) ?_
      exact hr_vret X hr hlk hS (Or.inl ⟨rfl, rfl, hC⟩) (Nat.zero_le _) (Nat.zero_le _) dX0_work_119
  by_cases m1 : c1 = -1
  · rw [if_neg c3, if_neg c2, if_neg c1k, if_neg c0, if_pos m1] at hnn ⊢
    have hx1 : hp_ex (hp_exc σ) = hp_ex σ + 1 := rfl
    refine hr_meth (by decide) (Nat.le_of_ble_eq_true rfl) Z h0 ?_
    intro p e s m0 below meth c ls X hr hlk hnm htab hadm hsz hC hl
    have hl : lv_has ls 2 [(0, _), (1, _)] := hl
    have hS := hr_S0 (s := s) (lo := b) (n := 20)
    have hreg := hr_reg (lo := b) (n := 20) (sz := s.heap.size)
    have hSz : s.heap.size ≤ s.heap.size := Nat.le_refl _
    refine lv_iload_n X.ex X.by dX0_work_0 rfl (lv_at hl 1 rfl) ?_
    refine lv_sipush (v := 3000) X.ex X.by dX0_work_1 (by decide) ?_
    refine lv_icmp_lt (tgt := 19) X.ex X.by dX0_work_4 (by decide) (fun c_4 => ?_) (fun c_4 => absurd (Int32.not_le.mp c3) c_4)
    refine lv_iload_n X.ex X.by dX0_work_19 rfl (lv_at hl 1 rfl) ?_
    refine lv_sipush (v := 2000) X.ex X.by dX0_work_20 (by decide) ?_
    refine lv_icmp_lt (tgt := 38) X.ex X.by dX0_work_23 (by decide) (fun c_23 => ?_) (fun c_23 => absurd (Int32.not_le.mp c2) c_23)
    refine lv_iload_n X.ex X.by dX0_work_38 rfl (lv_at hl 1 rfl) ?_
    refine lv_sipush (v := 1000) X.ex X.by dX0_work_39 (by decide) ?_
    refine lv_icmp_lt (tgt := 57) X.ex X.by dX0_work_42 (by decide) (fun c_42 => ?_) (fun c_42 => absurd (Int32.not_le.mp c1k) c_42)
    refine lv_iload_n X.ex X.by dX0_work_57 rfl (lv_at hl 1 rfl) ?_
    refine lv_if_le (tgt := 84) X.ex X.by dX0_work_58 (by decide) (fun c_58 => ?_) (fun c_58 => absurd (Int32.not_lt.mp c0) c_58)
    refine lv_iload_n X.ex X.by dX0_work_84 rfl (lv_at hl 1 rfl) ?_
    refine lv_iconst (v := (-1)) X.ex X.by dX0_work_85 (by decide) ?_
    refine lv_icmp_ne (tgt := 98) X.ex X.by dX0_work_86 (by decide) (fun c_86 => absurd c_86 (fun z => z m1)) (fun c_86 => ?_)
    refine hr_newM X hr_i4 hS q155 q297 q38 (fs := [.null, .null, .null, .null, .null, .int 0, .int 0]) (fun j hj => by rcases (show j = 0 ∨ j = 1 ∨ j = 2 ∨ j = 3 ∨ j = 4 ∨ j = 5 ∨ j = 6 by omega) with rfl | rfl | rfl | rfl | rfl | rfl | rfl <;> rfl) (by show 0 + 1 ≤ 3 * (hp_ex (hp_exc σ) - hp_ex σ); omega) (by show 0 + 7 ≤ 44 * (hp_ex (hp_exc σ) - hp_ex σ); omega) dX0_work_89 (fun a2 H2 ha2 hO2 hM2 zN oN hS => ?_)
    have hC2 := hC
    refine lv_dup X.ex X.by dX0_work_92 rfl ?_
    refine lv_iconst (v := 1) X.ex X.by dX0_work_93 (by decide) ?_
    refine hr_callIv (As := [.int 1]) (lo := a2) (n := 1) (mc := 0) (ms := 0) X (k_X4_init l X.2.1 (by have := X.size; have := hS.1; omega) 1) v_X4_init (lw_meth q307) hS (fun q hq1 hq2 => Or.inr (by have := hSz; omega)) ⟨hO2, hM2⟩ rfl rfl (hr_lR (by decide) ⟨by show 4 ≤ 3 * n + 12; omega, by show 160 ≤ 40 * (3 * n + 12) + 10300; omega⟩) hl.1 rfl (Nat.le_of_ble_eq_true rfl) ⟨by show 0 + 1 + 0 ≤ 3 * (hp_ex (hp_exc σ) - hp_ex σ); omega, by show 0 + 7 + 0 ≤ 44 * (hp_ex (hp_exc σ) - hp_ex σ); omega⟩ dX0_work_94 (fun H locs hP hS hk => ?_)
    obtain ⟨qs, hO2, hM2⟩ := hP
    have hold : ∀ q : Nat, q < _ → H[q]? = _ := fun q hq => (hk.2 q (by rw [zN]; exact Nat.lt_succ_of_lt hq) (by omega)).trans (oN q hq)
    have hC := hr_cw.keptN hC2 hold
    refine hr_athrow X.ex X.by dX0_work_97 ?_
    have hE := hr_E.stuck (z := z) (k := 1) X (by omega) rfl hO2 hM2
    exact hr_leave X hlk (hh := []) (by rw [htab]; rfl) hr_rwN (hr_xz_lt (1, [])) (hr_E.xc (x := (1, [])) X hE) rfl hS (Or.inr ⟨(1, []), a2, rfl, rfl, hE, hC⟩) (by show 0 + 1 + 0 ≤ 3 * (hp_ex (hp_exc σ) - hp_ex σ); omega) (by show 0 + 7 + 0 ≤ 44 * (hp_ex (hp_exc σ) - hp_ex σ); omega)
  have h9 : c1 < -9 := by
    have hi := hp_ok_int hok
    rw [hp_le] at c1k
    rw [hp_lt] at c0 ⊢
    rw [hp_eq] at m1 w2 w3 w4
    have e0 : (0 : Int32).toInt = 0 := by decide
    have e9 : (-9 : Int32).toInt = -9 := by decide
    have e1 : (1000 : Int32).toInt = 1000 := by decide
    have f1 : (-1 : Int32).toInt = -1 := by decide
    have f2 : (-2 : Int32).toInt = -2 := by decide
    have f3 : (-3 : Int32).toInt = -3 := by decide
    have f4 : (-4 : Int32).toInt = -4 := by decide
    omega
  have hj5 := hp_hand hok h9
  have ej : (-10 : Int32) - c1 = nI (-10 - c1).toNatClampNeg := (hp_nI hj5.1).symm
  generalize (-10 - c1).toNatClampNeg = j at hj5 ej hnn ⊢
  by_cases j3 : 3 < j
  · rw [if_neg c3, if_neg c2, if_neg c1k, if_neg c0, if_neg m1, if_pos j3] at hnn ⊢
    have hx1 : hp_ex (hp_exc σ) = hp_ex σ + 1 := rfl
    refine hr_meth (by decide) (Nat.le_of_ble_eq_true rfl) Z h0 ?_
    intro p e s m0 below meth c ls X hr hlk hnm htab hadm hsz hC hl
    have hl : lv_has ls 2 [(0, _), (1, _)] := hl
    have hS := hr_S0 (s := s) (lo := b) (n := 20)
    have hreg := hr_reg (lo := b) (n := 20) (sz := s.heap.size)
    refine lv_iload_n X.ex X.by dX0_work_0 rfl (lv_at hl 1 rfl) ?_
    refine lv_sipush (v := 3000) X.ex X.by dX0_work_1 (by decide) ?_
    refine lv_icmp_lt (tgt := 19) X.ex X.by dX0_work_4 (by decide) (fun c_4 => ?_) (fun c_4 => absurd (Int32.not_le.mp c3) c_4)
    refine lv_iload_n X.ex X.by dX0_work_19 rfl (lv_at hl 1 rfl) ?_
    refine lv_sipush (v := 2000) X.ex X.by dX0_work_20 (by decide) ?_
    refine lv_icmp_lt (tgt := 38) X.ex X.by dX0_work_23 (by decide) (fun c_23 => ?_) (fun c_23 => absurd (Int32.not_le.mp c2) c_23)
    refine lv_iload_n X.ex X.by dX0_work_38 rfl (lv_at hl 1 rfl) ?_
    refine lv_sipush (v := 1000) X.ex X.by dX0_work_39 (by decide) ?_
    refine lv_icmp_lt (tgt := 57) X.ex X.by dX0_work_42 (by decide) (fun c_42 => ?_) (fun c_42 => absurd (Int32.not_le.mp c1k) c_42)
    refine lv_iload_n X.ex X.by dX0_work_57 rfl (lv_at hl 1 rfl) ?_
    refine lv_if_le (tgt := 84) X.ex X.by dX0_work_58 (by decide) (fun c_58 => ?_) (fun c_58 => absurd (Int32.not_lt.mp c0) c_58)
    refine lv_iload_n X.ex X.by dX0_work_84 rfl (lv_at hl 1 rfl) ?_
    refine lv_iconst (v := (-1)) X.ex X.by dX0_work_85 (by decide) ?_
    refine lv_icmp_ne (tgt := 98) X.ex X.by dX0_work_86 (by decide) (fun c_86 => ?_) (fun c_86 => absurd c_86 m1)
    refine lv_aload_n X.ex X.by dX0_work_98 rfl (lv_at hl 0 rfl) ?_
    refine lv_dup X.ex X.by dX0_work_99 rfl ?_
    refine hr_cget X hC 4 (by decide) rfl q71 dX0_work_100 ?_
    refine lv_aload_n X.ex X.by dX0_work_103 rfl (lv_at hl 0 rfl) ?_
    refine hr_cget X hC 1 (by decide) rfl q68 dX0_work_104 ?_
    refine lv_bipush (v := (-10)) X.ex X.by dX0_work_107 (by decide) ?_
    refine lv_iload_n X.ex X.by dX0_work_109 rfl (lv_at hl 1 rfl) ?_
    refine lv_isub X.ex X.by dX0_work_110 ?_
    obtain ⟨-, -, -, -, -, -, G, hG2, -⟩ := id hC
    exact hr_aout X hfl hlk htab hl.1 (Nat.le_of_ble_eq_true rfl) ⟨by show 8 ≤ 3 * n + 12; omega, by show 10300 ≤ 40 * (3 * n + 12) + 10300; omega⟩ ⟨by show 3 ≤ 3 * (hp_ex (hp_exc σ) - hp_ex σ); omega, by show 44 ≤ 44 * (hp_ex (hp_exc σ) - hp_ex σ); omega⟩ (by show 3 ≤ 3 * (hp_ex (hp_exc σ) - hp_ex σ); omega) (by show 44 ≤ 44 * (hp_ex (hp_exc σ) - hp_ex σ); omega) (fun H1 hq hxo hlt => Or.inr ⟨(4, []), _, rfl, rfl, ⟨by omega, (by rw [if_neg (by decide)]; exact hxo), fun h9 => absurd h9 (by decide)⟩, hr_cw.keptN hC hq⟩) (t0 := 2) (E := RX3) rfl hG2 (by rw [ej]; rcases (show j = 4 ∨ j = 5 by omega) with e | e <;> (rw [e]; decide)) dX0_work_111
  by_cases hj0 : h j = 0
  · rw [if_neg c3, if_neg c2, if_neg c1k, if_neg c0, if_neg m1, if_neg j3, if_pos hj0] at hnn ⊢
    have hx1 : hp_ex (hp_exc σ) = hp_ex σ + 1 := rfl
    refine hr_meth (by decide) (Nat.le_of_ble_eq_true rfl) Z h0 ?_
    intro p e s m0 below meth c ls X hr hlk hnm htab hadm hsz hC hl
    have hl : lv_has ls 2 [(0, _), (1, _)] := hl
    have hS := hr_S0 (s := s) (lo := b) (n := 20)
    have hreg := hr_reg (lo := b) (n := 20) (sz := s.heap.size)
    refine lv_iload_n X.ex X.by dX0_work_0 rfl (lv_at hl 1 rfl) ?_
    refine lv_sipush (v := 3000) X.ex X.by dX0_work_1 (by decide) ?_
    refine lv_icmp_lt (tgt := 19) X.ex X.by dX0_work_4 (by decide) (fun c_4 => ?_) (fun c_4 => absurd (Int32.not_le.mp c3) c_4)
    refine lv_iload_n X.ex X.by dX0_work_19 rfl (lv_at hl 1 rfl) ?_
    refine lv_sipush (v := 2000) X.ex X.by dX0_work_20 (by decide) ?_
    refine lv_icmp_lt (tgt := 38) X.ex X.by dX0_work_23 (by decide) (fun c_23 => ?_) (fun c_23 => absurd (Int32.not_le.mp c2) c_23)
    refine lv_iload_n X.ex X.by dX0_work_38 rfl (lv_at hl 1 rfl) ?_
    refine lv_sipush (v := 1000) X.ex X.by dX0_work_39 (by decide) ?_
    refine lv_icmp_lt (tgt := 57) X.ex X.by dX0_work_42 (by decide) (fun c_42 => ?_) (fun c_42 => absurd (Int32.not_le.mp c1k) c_42)
    refine lv_iload_n X.ex X.by dX0_work_57 rfl (lv_at hl 1 rfl) ?_
    refine lv_if_le (tgt := 84) X.ex X.by dX0_work_58 (by decide) (fun c_58 => ?_) (fun c_58 => absurd (Int32.not_lt.mp c0) c_58)
    refine lv_iload_n X.ex X.by dX0_work_84 rfl (lv_at hl 1 rfl) ?_
    refine lv_iconst (v := (-1)) X.ex X.by dX0_work_85 (by decide) ?_
    refine lv_icmp_ne (tgt := 98) X.ex X.by dX0_work_86 (by decide) (fun c_86 => ?_) (fun c_86 => absurd c_86 m1)
    refine lv_aload_n X.ex X.by dX0_work_98 rfl (lv_at hl 0 rfl) ?_
    refine lv_dup X.ex X.by dX0_work_99 rfl ?_
    refine hr_cget X hC 4 (by decide) rfl q71 dX0_work_100 ?_
    refine lv_aload_n X.ex X.by dX0_work_103 rfl (lv_at hl 0 rfl) ?_
    refine hr_cget X hC 1 (by decide) rfl q68 dX0_work_104 ?_
    refine lv_bipush (v := (-10)) X.ex X.by dX0_work_107 (by decide) ?_
    refine lv_iload_n X.ex X.by dX0_work_109 rfl (lv_at hl 1 rfl) ?_
    refine lv_isub X.ex X.by dX0_work_110 ?_
    refine hr_ccrew X hC ej (by omega) dX0_work_111 (fun _ => ?_) (fun a9 hj1 _ => absurd hj0 hj1)
    exact hr_npe X hfl hlk htab hl.1 (Nat.le_of_ble_eq_true rfl) ⟨by show 8 ≤ 3 * n + 12; omega, by show 10300 ≤ 40 * (3 * n + 12) + 10300; omega⟩ ⟨by show 3 ≤ 3 * (hp_ex (hp_exc σ) - hp_ex σ); omega, by show 44 ≤ 44 * (hp_ex (hp_exc σ) - hp_ex σ); omega⟩ (by show 3 ≤ 3 * (hp_ex (hp_exc σ) - hp_ex σ); omega) (by show 44 ≤ 44 * (hp_ex (hp_exc σ) - hp_ex σ); omega) (fun H1 hq hxo hlt => Or.inr ⟨(3, []), _, rfl, rfl, ⟨by omega, (by rw [if_neg (by decide)]; exact hxo), fun h9 => absurd h9 (by decide)⟩, hr_cw.keptN hC hq⟩) hr_i2 (k := 0) (by decide) q147 dX0_work_112
  · rw [if_neg c3, if_neg c2, if_neg c1k, if_neg c0, if_neg m1, if_neg j3, if_neg hj0] at hnn ⊢
    refine hr_meth (by decide) (Nat.le_of_ble_eq_true rfl) Z h0 ?_
    intro p e s m0 below meth c ls X hr hlk hnm htab hadm hsz hC hl
    have hl : lv_has ls 2 [(0, _), (1, _)] := hl
    have hS := hr_S0 (s := s) (lo := b) (n := 20)
    have hreg := hr_reg (lo := b) (n := 20) (sz := s.heap.size)
    refine lv_iload_n X.ex X.by dX0_work_0 rfl (lv_at hl 1 rfl) ?_
    refine lv_sipush (v := 3000) X.ex X.by dX0_work_1 (by decide) ?_
    refine lv_icmp_lt (tgt := 19) X.ex X.by dX0_work_4 (by decide) (fun c_4 => ?_) (fun c_4 => absurd (Int32.not_le.mp c3) c_4)
    refine lv_iload_n X.ex X.by dX0_work_19 rfl (lv_at hl 1 rfl) ?_
    refine lv_sipush (v := 2000) X.ex X.by dX0_work_20 (by decide) ?_
    refine lv_icmp_lt (tgt := 38) X.ex X.by dX0_work_23 (by decide) (fun c_23 => ?_) (fun c_23 => absurd (Int32.not_le.mp c2) c_23)
    refine lv_iload_n X.ex X.by dX0_work_38 rfl (lv_at hl 1 rfl) ?_
    refine lv_sipush (v := 1000) X.ex X.by dX0_work_39 (by decide) ?_
    refine lv_icmp_lt (tgt := 57) X.ex X.by dX0_work_42 (by decide) (fun c_42 => ?_) (fun c_42 => absurd (Int32.not_le.mp c1k) c_42)
    refine lv_iload_n X.ex X.by dX0_work_57 rfl (lv_at hl 1 rfl) ?_
    refine lv_if_le (tgt := 84) X.ex X.by dX0_work_58 (by decide) (fun c_58 => ?_) (fun c_58 => absurd (Int32.not_lt.mp c0) c_58)
    refine lv_iload_n X.ex X.by dX0_work_84 rfl (lv_at hl 1 rfl) ?_
    refine lv_iconst (v := (-1)) X.ex X.by dX0_work_85 (by decide) ?_
    refine lv_icmp_ne (tgt := 98) X.ex X.by dX0_work_86 (by decide) (fun c_86 => ?_) (fun c_86 => absurd c_86 m1)
    refine lv_aload_n X.ex X.by dX0_work_98 rfl (lv_at hl 0 rfl) ?_
    refine lv_dup X.ex X.by dX0_work_99 rfl ?_
    refine hr_cget X hC 4 (by decide) rfl q71 dX0_work_100 ?_
    refine lv_aload_n X.ex X.by dX0_work_103 rfl (lv_at hl 0 rfl) ?_
    refine hr_cget X hC 1 (by decide) rfl q68 dX0_work_104 ?_
    refine lv_bipush (v := (-10)) X.ex X.by dX0_work_107 (by decide) ?_
    refine lv_iload_n X.ex X.by dX0_work_109 rfl (lv_at hl 1 rfl) ?_
    refine lv_isub X.ex X.by dX0_work_110 ?_
    refine hr_ccrew X hC ej (by omega) dX0_work_111 (fun hj1 => absurd hj1 hj0) (fun a9 _ hO9 => ?_)
    refine hr_hands X hO9 q147 dX0_work_112 ?_
    refine lv_iadd X.ex X.by dX0_work_115 ?_
    refine hr_cput X hC hS hreg 4 (by decide) (Nat.le_of_ble_eq_true rfl) rfl rfl q71 dX0_work_116 (fun H locs hC hS _ => ?_)
    exact hr_vret X hr hlk hS (Or.inl ⟨rfl, rfl, hC⟩) (Nat.zero_le _) (Nat.zero_le _) dX0_work_119
end HRM3
end
section
/-! THE CLASS: lift -/
section HRLF
theorem hr_pm (x : Int32) : x + 1 - 1 = x := by
  have h := Int32.add_sub_cancel x 1
  exact h
theorem hr_nd {n : Nat} (hn : n + 1 ≤ 6) : nI (6 - n) - 1 = nI (6 - (n + 1)) := by
  have e : 6 - n = 6 - (n + 1) + 1 := by omega
  rw [e, nI_pred]
theorem hp_loop_7 {wk : Int32 → hp_S → hp_R} {C1 : Nat → Int32} {n k : Nat} {σ : hp_S} (cb : hp_bg σ = 300) : hp_loop wk C1 (n + 1) k σ = (some (some (7, [])), hp_cl (hp_exc (hp_wr 3 (hp_wr 2 σ)))) := by rw [hp_loop, if_pos cb]
theorem hp_loop_2 {wk : Int32 → hp_S → hp_R} {C1 : Nat → Int32} {n k : Nat} {σ : hp_S} (cb : ¬ hp_bg σ = 300) (c2 : C1 k = -2) : hp_loop wk C1 (n + 1) k σ = (none, hp_cl (hp_beg (hp_wr 3 (hp_wr 2 σ)))) := by rw [hp_loop, if_neg cb, if_pos c2]
theorem hp_loop_3 {wk : Int32 → hp_S → hp_R} {C1 : Nat → Int32} {n k : Nat} {σ : hp_S} (cb : ¬ hp_bg σ = 300) (c2 : ¬ C1 k = -2) (c3 : C1 k = -3) : hp_loop wk C1 (n + 1) k σ = hp_loop wk C1 n (k + 1) (hp_cl (hp_beg (hp_wr 3 (hp_wr 2 σ)))) := by rw [hp_loop, if_neg cb, if_neg c2, if_pos c3]
theorem hp_loop_4 {wk : Int32 → hp_S → hp_R} {C1 : Nat → Int32} {n k : Nat} {σ : hp_S} (cb : ¬ hp_bg σ = 300) (c2 : ¬ C1 k = -2) (c3 : ¬ C1 k = -3) (c4 : C1 k = -4) : hp_loop wk C1 (n + 1) k σ = (some none, hp_cl (hp_beg (hp_wr 3 (hp_wr 2 σ)))) := by rw [hp_loop, if_neg cb, if_neg c2, if_neg c3, if_pos c4]
theorem hp_loop_n {wk : Int32 → hp_S → hp_R} {C1 : Nat → Int32} {n k : Nat} {σ τ : hp_S} (cb : ¬ hp_bg σ = 300) (c2 : ¬ C1 k = -2) (c3 : ¬ C1 k = -3) (c4 : ¬ C1 k = -4) (hw : wk (C1 k) (hp_beg (hp_wr 3 (hp_wr 2 σ))) = (none, τ)) : hp_loop wk C1 (n + 1) k σ = hp_loop wk C1 n (k + 1) (hp_wr 5 (hp_cl τ)) := by rw [hp_loop, if_neg cb, if_neg c2, if_neg c3, if_neg c4, hw]
theorem hp_loop_x {wk : Int32 → hp_S → hp_R} {C1 : Nat → Int32} {n k : Nat} {σ τ : hp_S} {x : hp_X} (cb : ¬ hp_bg σ = 300) (c2 : ¬ C1 k = -2) (c3 : ¬ C1 k = -3) (c4 : ¬ C1 k = -4) (hw : wk (C1 k) (hp_beg (hp_wr 3 (hp_wr 2 σ))) = (some x, τ)) : hp_loop wk C1 (n + 1) k σ = (some (some x), hp_cl τ) := by rw [hp_loop, if_neg cb, if_neg c2, if_neg c3, if_neg c4, hw]
theorem hr_nu {n : Nat} (hn : n + 1 ≤ 6) : nI (6 - (n + 1)) + 1 = nI (6 - n) := by
  have e : 6 - n = 6 - (n + 1) + 1 := by omega
  rw [e, nI_1]
set_option maxHeartbeats 4000000 in
theorem lift_375 {p : Program} {l : Launch} {e : Env} {s : State} {m0 : MethodId} {args : Array Value} {below : List Frame} {meth : Method} {c : Code} {s0 : State} {D : va_G} {g : ClassId × ClassId × ClassId} {b z : Nat} (X : hr_X p s m0 args c cX0_lift 8 RX0 s0 D g (hr_A b 20 s.heap.size)) (hr : meth.sig.returnType = none) (hlk : meth.locks = false) (htab : c.exceptionTable.toList.map hr_row = hhL) {M : Nat → Nat} {C : Nat → Nat → Int32} {h : Nat → Int32} {ta lo : Int32} {f : Int32 × Int32 × Int32 × Int32} {n : Nat} (hn6 : n + 1 ≤ 6) {br lm : Int32} {σ0 : hp_S} {qF : hp_R} (hnn : hp_n qF.2 ≤ 2800) {τ : hp_S} (hq : qF = (none, hp_wr (-1) (hp_add 1 (hp_wr 4 τ)))) (hle : hp_ex σ0 ≤ hp_ex τ) {H : Heap} {locs : List Loc} {ls : Array Slot} (hC : hr_cG D g b z M C h ta lo f (nI (6 - n)) (nI (6 - n)) br lm τ H) (hS : va_S (hr_A b 20 s.heap.size) s.heap H locs) (hl : lv_has ls 8 [(0, .ref b)]) : W p l e (hr_R (3 * (n + 1) + 10) (3 * (hp_ex qF.2 - hp_ex σ0)) (44 * (hp_ex qF.2 - hp_ex σ0))) s m0 args below meth c H locs (3 * (hp_ex τ - hp_ex σ0)) (44 * (hp_ex τ - hp_ex σ0)) (hr_Q below (hr_Qc b 20 (hr_out D s0 z (fun τ H => hr_cG D g b z M C h ta lo f (nI (6 - (n + 1))) (nI (6 - (n + 1))) br lm τ H) qF)) args s (3 * (hp_ex qF.2 - hp_ex σ0)) (44 * (hp_ex qF.2 - hp_ex σ0)) (hr_A b 20 s.heap.size)) (F0 m0 375 ls []) := by
  have hreg := hr_reg (lo := b) (n := 20) (sz := s.heap.size)
  have hxF : hp_ex qF.2 = hp_ex τ := by rw [hq]; rfl
  have hnF : hp_n qF.2 = hp_n τ + 2 := by rw [hq]; rfl
  have e4 : hp_n (hp_wr 4 τ) = hp_n τ + 1 := rfl
  have e5 : hp_n (hp_add 1 (hp_wr 4 τ)) = hp_n τ + 1 := rfl
  refine lv_aload_n X.ex X.by dX0_lift_375 rfl (lv_at hl 0 rfl) ?_
  refine lv_iconst (v := 4) X.ex X.by dX0_lift_376 (by decide) ?_
  refine c_X0_write X hC (by omega) hS hreg ⟨by show 1 ≤ 3 * (n + 1) + 10; omega, by show 40 ≤ 40 * (3 * (n + 1) + 10) + 10300; omega⟩ ⟨by show 3 * (hp_ex τ - hp_ex σ0) ≤ 3 * (hp_ex qF.2 - hp_ex σ0); omega, by show 44 * (hp_ex τ - hp_ex σ0) ≤ 44 * (hp_ex qF.2 - hp_ex σ0); omega⟩ hl.1 (Nat.le_of_ble_eq_true rfl) dX0_lift_377 (fun H locs hC hS hk => ?_)
  refine lv_aload_n X.ex X.by dX0_lift_380 rfl (lv_at hl 0 rfl) ?_
  refine lv_dup X.ex X.by dX0_lift_381 rfl ?_
  refine hr_cget X hC 4 (by decide) rfl q71 dX0_lift_382 ?_
  refine lv_iconst (v := 1) X.ex X.by dX0_lift_385 (by decide) ?_
  refine lv_iadd X.ex X.by dX0_lift_386 ?_
  refine hr_cput X hC hS hreg 4 (by decide) (Nat.le_of_ble_eq_true rfl) rfl rfl q71 dX0_lift_387 (fun H locs hC hS _ => ?_)
  refine lv_aload_n X.ex X.by dX0_lift_390 rfl (lv_at hl 0 rfl) ?_
  refine lv_dup X.ex X.by dX0_lift_391 rfl ?_
  refine hr_cget X hC 6 (by decide) rfl q73 dX0_lift_392 ?_
  refine lv_iconst (v := 1) X.ex X.by dX0_lift_395 (by decide) ?_
  refine lv_isub X.ex X.by dX0_lift_396 ?_
  refine hr_cput X hC hS hreg 6 (by decide) (Nat.le_of_ble_eq_true rfl) rfl rfl q73 dX0_lift_397 (fun H locs hC hS _ => ?_)
  rw [hr_nd hn6] at hC
  refine lv_aload_n X.ex X.by dX0_lift_400 rfl (lv_at hl 0 rfl) ?_
  refine lv_dup X.ex X.by dX0_lift_401 rfl ?_
  refine hr_cget X hC 8 (by decide) rfl q75 dX0_lift_402 ?_
  refine lv_iconst (v := 1) X.ex X.by dX0_lift_405 (by decide) ?_
  refine lv_isub X.ex X.by dX0_lift_406 ?_
  refine hr_cput X hC hS hreg 8 (by decide) (Nat.le_of_ble_eq_true rfl) rfl rfl q75 dX0_lift_407 (fun H locs hC hS _ => ?_)
  rw [hr_nd hn6] at hC
  refine lv_aload_n X.ex X.by dX0_lift_410 rfl (lv_at hl 0 rfl) ?_
  refine lv_iconst (v := (-1)) X.ex X.by dX0_lift_411 (by decide) ?_
  have hC : hr_cG D g b z M C h ta lo f (nI (6 - (n + 1))) (nI (6 - (n + 1))) br lm (hp_add 1 (hp_wr 4 τ)) H := hC
  refine c_X0_write X hC (by omega) hS hreg ⟨by show 1 ≤ 3 * (n + 1) + 10; omega, by show 40 ≤ 40 * (3 * (n + 1) + 10) + 10300; omega⟩ ⟨by show 3 * (hp_ex τ - hp_ex σ0) ≤ 3 * (hp_ex qF.2 - hp_ex σ0); omega, by show 44 * (hp_ex τ - hp_ex σ0) ≤ 44 * (hp_ex qF.2 - hp_ex σ0); omega⟩ hl.1 (Nat.le_of_ble_eq_true rfl) dX0_lift_412 (fun H locs hC hS hk => ?_)
  refine lv_goto (tgt := 448) X.ex X.by dX0_lift_415 (by decide) ?_
  exact hr_vret X hr hlk hS (Or.inl ⟨by rw [hq], rfl, by rw [hq]; exact hC⟩) (by show 3 * (hp_ex τ - hp_ex σ0) ≤ 3 * (hp_ex qF.2 - hp_ex σ0); omega) (by show 44 * (hp_ex τ - hp_ex σ0) ≤ 44 * (hp_ex qF.2 - hp_ex σ0); omega) dX0_lift_448
set_option maxHeartbeats 4000000 in
theorem lift_303 {p : Program} {l : Launch} {e : Env} {s : State} {m0 : MethodId} {args : Array Value} {below : List Frame} {meth : Method} {c : Code} {s0 : State} {D : va_G} {g : ClassId × ClassId × ClassId} {b z : Nat} (X : hr_X p s m0 args c cX0_lift 8 RX0 s0 D g (hr_A b 20 s.heap.size)) (hr : meth.sig.returnType = none) (hlk : meth.locks = false) (htab : c.exceptionTable.toList.map hr_row = hhL) {M : Nat → Nat} {C : Nat → Nat → Int32} {h : Nat → Int32} {ta lo : Int32} {f : Int32 × Int32 × Int32 × Int32} {n : Nat} (hn6 : n + 1 ≤ 6) {br lm : Int32} {σ0 : hp_S} {qF : hp_R} (hnn : hp_n qF.2 ≤ 2800) {x : hp_X} {τ : hp_S} (hq : qF = (some x, hp_wr (-1) (hp_cl τ))) (hle : hp_ex σ0 ≤ hp_ex τ) {a : Nat} {H : Heap} {locs : List Loc} {ls : Array Slot} (hE : hr_E D s0 z x.1 x.2 a H) (hC : hr_cG D g b z M C h ta lo f (nI (6 - n)) (nI (6 - n)) (br + 1) (lm + 1) τ H) (hS : va_S (hr_A b 20 s.heap.size) s.heap H locs) (hl : lv_has ls 8 [(0, .ref b)]) : W p l e (hr_R (3 * (n + 1) + 10) (3 * (hp_ex qF.2 - hp_ex σ0)) (44 * (hp_ex qF.2 - hp_ex σ0))) s m0 args below meth c H locs (3 * (hp_ex τ - hp_ex σ0)) (44 * (hp_ex τ - hp_ex σ0)) (hr_Q below (hr_Qc b 20 (hr_out D s0 z (fun τ H => hr_cG D g b z M C h ta lo f (nI (6 - (n + 1))) (nI (6 - (n + 1))) br lm τ H) qF)) args s (3 * (hp_ex qF.2 - hp_ex σ0)) (44 * (hp_ex qF.2 - hp_ex σ0)) (hr_A b 20 s.heap.size)) (F0 m0 303 ls [.ref a]) := by
  have hreg := hr_reg (lo := b) (n := 20) (sz := s.heap.size)
  have hbz : b + 20 ≤ z := hC.1
  have hxF : hp_ex qF.2 = hp_ex τ := by rw [hq]; rfl
  have hnF : hp_n qF.2 = hp_n τ + 3 := by rw [hq]; rfl
  have e4 : hp_n (hp_wr (-3) τ) = hp_n τ + 1 := rfl
  have e5 : hp_n (hp_wr (-2) (hp_wr (-3) τ)) = hp_n τ + 2 := rfl
  have e6 : hp_n (hp_cl τ) = hp_n τ + 2 := rfl
  refine lv_astore X.ex X.by dX0_lift_303 hl (by decide) rfl (fun ls hl => ?_)
  have hl : lv_has ls 8 [(5, _), (0, _)] := hl
  refine lv_aload_n X.ex X.by dX0_lift_305 rfl (lv_at hl 1 rfl) ?_
  refine lv_dup X.ex X.by dX0_lift_306 rfl ?_
  refine hr_cget X hC 10 (by decide) rfl q77 dX0_lift_307 ?_
  refine lv_iconst (v := 1) X.ex X.by dX0_lift_310 (by decide) ?_
  refine lv_isub X.ex X.by dX0_lift_311 ?_
  refine hr_cput X hC hS hreg 10 (by decide) (Nat.le_of_ble_eq_true rfl) rfl rfl q77 dX0_lift_312 (fun H locs hC hS hk => ?_)
  rw [hr_pm] at hC
  have hE := hE.kept (H1 := H) (fun q hz hq => hk.2 q hq (by have := hbz; omega))
  refine lv_aload_n X.ex X.by dX0_lift_315 rfl (lv_at hl 1 rfl) ?_
  refine lv_bipush (v := (-3)) X.ex X.by dX0_lift_316 (by decide) ?_
  have hC : hr_cG D g b z M C h ta lo f (nI (6 - n)) (nI (6 - n)) (br + 1) lm τ H := hC
  refine c_X0_write X hC (by omega) hS hreg ⟨by show 1 ≤ 3 * (n + 1) + 10; omega, by show 40 ≤ 40 * (3 * (n + 1) + 10) + 10300; omega⟩ ⟨by show 3 * (hp_ex τ - hp_ex σ0) ≤ 3 * (hp_ex qF.2 - hp_ex σ0); omega, by show 44 * (hp_ex τ - hp_ex σ0) ≤ 44 * (hp_ex qF.2 - hp_ex σ0); omega⟩ hl.1 (Nat.le_of_ble_eq_true rfl) dX0_lift_318 (fun H locs hC hS hk => ?_)
  have hE := hE.kept (H1 := H) (fun q hz hq => hk.2 q hq (by have := hbz; omega))
  refine lv_aload X.ex X.by dX0_lift_321 (lv_at hl 0 rfl) ?_
  refine hr_athrow X.ex X.by dX0_lift_323 ?_
  refine hr_catch X htab hr_rwL (hr_xz_lt x) (hE.xc X) (hpc := 343) rfl ?_
  refine lv_astore X.ex X.by dX0_lift_343 hl (by decide) rfl (fun ls hl => ?_)
  have hl : lv_has ls 8 [(6, _), (5, _), (0, _)] := hl
  refine lv_aload_n X.ex X.by dX0_lift_345 rfl (lv_at hl 2 rfl) ?_
  refine lv_dup X.ex X.by dX0_lift_346 rfl ?_
  refine hr_cget X hC 9 (by decide) rfl q76 dX0_lift_347 ?_
  refine lv_iconst (v := 1) X.ex X.by dX0_lift_350 (by decide) ?_
  refine lv_isub X.ex X.by dX0_lift_351 ?_
  refine hr_cput X hC hS hreg 9 (by decide) (Nat.le_of_ble_eq_true rfl) rfl rfl q76 dX0_lift_352 (fun H locs hC hS hk => ?_)
  rw [hr_pm] at hC
  have hE := hE.kept (H1 := H) (fun q hz hq => hk.2 q hq (by have := hbz; omega))
  refine lv_aload_n X.ex X.by dX0_lift_355 rfl (lv_at hl 2 rfl) ?_
  refine lv_bipush (v := (-2)) X.ex X.by dX0_lift_356 (by decide) ?_
  have hC : hr_cG D g b z M C h ta lo f (nI (6 - n)) (nI (6 - n)) br lm (hp_wr (-3) τ) H := hC
  refine c_X0_write X hC (by omega) hS hreg ⟨by show 1 ≤ 3 * (n + 1) + 10; omega, by show 40 ≤ 40 * (3 * (n + 1) + 10) + 10300; omega⟩ ⟨by show 3 * (hp_ex τ - hp_ex σ0) ≤ 3 * (hp_ex qF.2 - hp_ex σ0); omega, by show 44 * (hp_ex τ - hp_ex σ0) ≤ 44 * (hp_ex qF.2 - hp_ex σ0); omega⟩ hl.1 (Nat.le_of_ble_eq_true rfl) dX0_lift_358 (fun H locs hC hS hk => ?_)
  have hE := hE.kept (H1 := H) (fun q hz hq => hk.2 q hq (by have := hbz; omega))
  refine lv_aload X.ex X.by dX0_lift_361 (lv_at hl 0 rfl) ?_
  refine hr_athrow X.ex X.by dX0_lift_363 ?_
  refine hr_catch X htab hr_rwL (hr_xz_lt x) (hE.xc X) (hpc := 418) rfl ?_
  refine lv_astore X.ex X.by dX0_lift_418 hl (by decide) rfl (fun ls hl => ?_)
  have hl : lv_has ls 8 [(7, _), (6, _), (5, _), (0, _)] := hl
  refine lv_aload_n X.ex X.by dX0_lift_420 rfl (lv_at hl 3 rfl) ?_
  refine lv_dup X.ex X.by dX0_lift_421 rfl ?_
  refine hr_cget X hC 6 (by decide) rfl q73 dX0_lift_422 ?_
  refine lv_iconst (v := 1) X.ex X.by dX0_lift_425 (by decide) ?_
  refine lv_isub X.ex X.by dX0_lift_426 ?_
  refine hr_cput X hC hS hreg 6 (by decide) (Nat.le_of_ble_eq_true rfl) rfl rfl q73 dX0_lift_427 (fun H locs hC hS hk => ?_)
  rw [hr_nd hn6] at hC
  have hE := hE.kept (H1 := H) (fun q hz hq => hk.2 q hq (by have := hbz; omega))
  refine lv_aload_n X.ex X.by dX0_lift_430 rfl (lv_at hl 3 rfl) ?_
  refine lv_dup X.ex X.by dX0_lift_431 rfl ?_
  refine hr_cget X hC 8 (by decide) rfl q75 dX0_lift_432 ?_
  refine lv_iconst (v := 1) X.ex X.by dX0_lift_435 (by decide) ?_
  refine lv_isub X.ex X.by dX0_lift_436 ?_
  refine hr_cput X hC hS hreg 8 (by decide) (Nat.le_of_ble_eq_true rfl) rfl rfl q75 dX0_lift_437 (fun H locs hC hS hk => ?_)
  rw [hr_nd hn6] at hC
  have hE := hE.kept (H1 := H) (fun q hz hq => hk.2 q hq (by have := hbz; omega))
  refine lv_aload_n X.ex X.by dX0_lift_440 rfl (lv_at hl 3 rfl) ?_
  refine lv_iconst (v := (-1)) X.ex X.by dX0_lift_441 (by decide) ?_
  have hC : hr_cG D g b z M C h ta lo f (nI (6 - (n + 1))) (nI (6 - (n + 1))) br lm (hp_cl τ) H := hC
  refine c_X0_write X hC (by omega) hS hreg ⟨by show 1 ≤ 3 * (n + 1) + 10; omega, by show 40 ≤ 40 * (3 * (n + 1) + 10) + 10300; omega⟩ ⟨by show 3 * (hp_ex τ - hp_ex σ0) ≤ 3 * (hp_ex qF.2 - hp_ex σ0); omega, by show 44 * (hp_ex τ - hp_ex σ0) ≤ 44 * (hp_ex qF.2 - hp_ex σ0); omega⟩ hl.1 (Nat.le_of_ble_eq_true rfl) dX0_lift_442 (fun H locs hC hS hk => ?_)
  have hE := hE.kept (H1 := H) (fun q hz hq => hk.2 q hq (by have := hbz; omega))
  refine lv_aload X.ex X.by dX0_lift_445 (lv_at hl 0 rfl) ?_
  refine hr_athrow X.ex X.by dX0_lift_447 ?_
  exact hr_leave X hlk htab hr_rwL (hr_xz_lt x) (hE.xc X) rfl hS (Or.inr ⟨x, a, by rw [hq], rfl, hE, by rw [hq]; exact hC⟩) (by show 3 * (hp_ex τ - hp_ex σ0) ≤ 3 * (hp_ex qF.2 - hp_ex σ0); omega) (by show 44 * (hp_ex τ - hp_ex σ0) ≤ 44 * (hp_ex qF.2 - hp_ex σ0); omega)
set_option maxHeartbeats 8000000 in
theorem lift_loop {p : Program} {l : Launch} {e : Env} {s : State} {m0 : MethodId} {args : Array Value} {below : List Frame} {meth : Method} {c : Code} {s0 : State} {D : va_G} {g : ClassId × ClassId × ClassId} {b z : Nat} (X : hr_X p s m0 args c cX0_lift 8 RX0 s0 D g (hr_A b 20 s.heap.size)) (hr : meth.sig.returnType = none) (hlk : meth.locks = false) (htab : c.exceptionTable.toList.map hr_row = hhL) {M : Nat → Nat} {C : Nat → Nat → Int32} {h : Nat → Int32} {ta lo : Int32} {f : Int32 × Int32 × Int32 × Int32} {n : Nat} (hn6 : n + 1 ≤ 6) {br lm : Int32} {σ0 : hp_S} {qF : hp_R} (hnn : hp_n qF.2 ≤ 2800) (hfl : l.flags = flags0) (hM : ∀ r, r < 8 → M r ≤ 12) (hok : ∀ r k, r < 8 → k < M r → hp_ok (C r k)) (hL : hr_CL l s0 D g b z M C h ta lo f n) (hzz : z ≤ s.heap.size) (h0 : s0.heap.size ≤ b) {r : Nat} (hr8 : r < 8) {v1 : Value} :
    ∀ (rem k : Nat) (σ : hp_S) (H : Heap) (locs : List Loc) (ls : Array Slot), k + rem = M r → hp_end (hp_loop (hp_work (hp_lift M C h ta lo n) h ta lo) (C r) rem k σ) = qF → hp_bg σ ≤ 300 → σ.2.2.1 ≤ 6 → hp_ex σ0 ≤ hp_ex σ → hr_cG D g b z M C h ta lo f (nI (6 - n)) (nI (6 - n)) br lm σ H → va_S (hr_A b 20 s.heap.size) s.heap H locs → lv_has ls 8 [(3, .int (nI k)), (2, .ref (b + 4 + 2 * r)), (1, v1), (0, .ref b)] → W p l e (hr_R (3 * (n + 1) + 10) (3 * (hp_ex qF.2 - hp_ex σ0)) (44 * (hp_ex qF.2 - hp_ex σ0))) s m0 args below meth c H locs (3 * (hp_ex σ - hp_ex σ0)) (44 * (hp_ex σ - hp_ex σ0)) (hr_Q below (hr_Qc b 20 (hr_out D s0 z (fun τ H => hr_cG D g b z M C h ta lo f (nI (6 - (n + 1))) (nI (6 - (n + 1))) br lm τ H) qF)) args s (3 * (hp_ex qF.2 - hp_ex σ0)) (44 * (hp_ex qF.2 - hp_ex σ0)) (hr_A b 20 s.heap.size)) (F0 m0 79 ls []) := by
  have hreg := hr_reg (lo := b) (n := 20) (sz := s.heap.size)
  have h12 := hM r hr8
  have hacc : ∀ r σ, hp_bg σ ≤ 300 → hp_acc 3 1 (hp_lift M C h ta lo n r σ).1 σ (hp_lift M C h ta lo n r σ).2 := fun r σ hσ => hp_acc_lift n r σ hσ
  have hwacc : ∀ c σ, hp_bg σ ≤ 300 → hp_acc 4 2 (hp_work (hp_lift M C h ta lo n) h ta lo c σ).1 σ (hp_work (hp_lift M C h ta lo n) h ta lo c σ).2 := fun c σ hσ => hp_acc_work hacc c σ hσ
  intro rem
  induction rem with
  | zero =>
    intro k σ H locs ls hk hq hbg hmr hle hC hS hl
    have hk : k = M r := hk
    have hq : qF = (none, hp_wr (-1) (hp_add 1 (hp_wr 4 σ))) := hq.symm
    refine lv_iload_n X.ex X.by dX0_lift_79 rfl (lv_at hl 0 rfl) ?_
    refine lv_aload_n X.ex X.by dX0_lift_80 rfl (lv_at hl 1 rfl) ?_
    refine hr_cmany X hC hr8 q60 dX0_lift_81 ?_
    refine lv_icmp_ge (tgt := 375) X.ex X.by dX0_lift_84 (by decide) (fun c_84 => ?_) (fun c_84 => absurd (by rw [hk]; exact Int32.le_refl _) c_84)
    exact lift_375 X hr hlk htab hn6 hnn hq hle hC hS (lv_sub hl [3] rfl)
  | succ rem ih =>
    intro k σ H locs ls hk hq hbg hmr hle hC hS hl
    have hkM : k < M r := by omega
    have hnl := hp_loop_ge (C1 := C r) hwacc rem k σ hbg
    have hup := hp_loop_up (h := h) (ta := ta) (lo := lo) (C1 := C r) hacc (rem + 1) k σ hbg
    have heu := hp_end_up (hp_loop (hp_work (hp_lift M C h ta lo n) h ta lo) (C r) (rem + 1) k σ)
    rw [hq] at heu
    have hexF : hp_ex σ ≤ hp_ex qF.2 := by have h1 := hup.2.1; have h2 := heu.2; omega
    have hnF : hp_n σ + 5 ≤ hp_n qF.2 := by have h1 := heu.1; omega
    have e2 : hp_n (hp_wr 2 σ) = hp_n σ + 1 := rfl
    have hokk := hok r k hr8 hkM
    refine lv_iload_n X.ex X.by dX0_lift_79 rfl (lv_at hl 0 rfl) ?_
    refine lv_aload_n X.ex X.by dX0_lift_80 rfl (lv_at hl 1 rfl) ?_
    refine hr_cmany X hC hr8 q60 dX0_lift_81 ?_
    refine lv_icmp_ge (tgt := 375) X.ex X.by dX0_lift_84 (by decide) (fun c_84 => absurd c_84 (nI_ge hkM (by omega))) (fun c_84 => ?_)
    refine lv_aload_n X.ex X.by dX0_lift_87 rfl (lv_at hl 1 rfl) ?_
    refine hr_ccells X hC hr8 q59 dX0_lift_88 ?_
    refine lv_iload_n X.ex X.by dX0_lift_91 rfl (lv_at hl 0 rfl) ?_
    refine hr_ccld X hC hr8 rfl (by omega) dX0_lift_92 ?_
    refine lv_istore X.ex X.by dX0_lift_93 hl (by decide) rfl (fun ls hl => ?_)
    have hl : lv_has ls 8 [(4, _), (3, _), (2, _), (1, _), (0, _)] := hl
    refine lv_aload_n X.ex X.by dX0_lift_95 rfl (lv_at hl 4 rfl) ?_
    refine lv_dup X.ex X.by dX0_lift_96 rfl ?_
    refine hr_cget X hC 9 (by decide) rfl q76 dX0_lift_97 ?_
    refine lv_iconst (v := 1) X.ex X.by dX0_lift_100 (by decide) ?_
    refine lv_iadd X.ex X.by dX0_lift_101 ?_
    refine hr_cput X hC hS hreg 9 (by decide) (Nat.le_of_ble_eq_true rfl) rfl rfl q76 dX0_lift_102 (fun H locs hC hS _ => ?_)
    refine lv_aload_n X.ex X.by dX0_lift_105 rfl (lv_at hl 4 rfl) ?_
    refine lv_iconst (v := 2) X.ex X.by dX0_lift_106 (by decide) ?_
    have hC : hr_cG D g b z M C h ta lo f (nI (6 - n)) (nI (6 - n)) (br + 1) lm σ H := hC
    refine c_X0_write X hC (by omega) hS hreg ⟨by show 1 ≤ 3 * (n + 1) + 10; omega, by show 40 ≤ 40 * (3 * (n + 1) + 10) + 10300; omega⟩ ⟨by show 3 * (hp_ex σ - hp_ex σ0) ≤ 3 * (hp_ex qF.2 - hp_ex σ0); omega, by show 44 * (hp_ex σ - hp_ex σ0) ≤ 44 * (hp_ex qF.2 - hp_ex σ0); omega⟩ hl.1 (Nat.le_of_ble_eq_true rfl) dX0_lift_107 (fun H locs hC hS hk => ?_)
    refine lv_aload_n X.ex X.by dX0_lift_110 rfl (lv_at hl 4 rfl) ?_
    refine lv_dup X.ex X.by dX0_lift_111 rfl ?_
    refine hr_cget X hC 10 (by decide) rfl q77 dX0_lift_112 ?_
    refine lv_iconst (v := 1) X.ex X.by dX0_lift_115 (by decide) ?_
    refine lv_iadd X.ex X.by dX0_lift_116 ?_
    refine hr_cput X hC hS hreg 10 (by decide) (Nat.le_of_ble_eq_true rfl) rfl rfl q77 dX0_lift_117 (fun H locs hC hS _ => ?_)
    refine lv_aload_n X.ex X.by dX0_lift_120 rfl (lv_at hl 4 rfl) ?_
    refine lv_iconst (v := 3) X.ex X.by dX0_lift_121 (by decide) ?_
    have hC : hr_cG D g b z M C h ta lo f (nI (6 - n)) (nI (6 - n)) (br + 1) (lm + 1) (hp_wr 2 σ) H := hC
    refine c_X0_write X hC (by omega) hS hreg ⟨by show 1 ≤ 3 * (n + 1) + 10; omega, by show 40 ≤ 40 * (3 * (n + 1) + 10) + 10300; omega⟩ ⟨by show 3 * (hp_ex σ - hp_ex σ0) ≤ 3 * (hp_ex qF.2 - hp_ex σ0); omega, by show 44 * (hp_ex σ - hp_ex σ0) ≤ 44 * (hp_ex qF.2 - hp_ex σ0); omega⟩ hl.1 (Nat.le_of_ble_eq_true rfl) dX0_lift_122 (fun H locs hC hS hk => ?_)
    refine lv_aload_n X.ex X.by dX0_lift_125 rfl (lv_at hl 4 rfl) ?_
    have hbu : hp_ex σ ≤ hp_ex (hp_bgn (hp_wr 3 (hp_wr 2 σ))).2 ∧ hp_ex (hp_bgn (hp_wr 3 (hp_wr 2 σ))).2 ≤ hp_ex qF.2 := by
      by_cases cb : hp_bg σ = 300
      · have e1 : hp_bgn (hp_wr 3 (hp_wr 2 σ)) = (some (7, []), hp_exc (hp_wr 3 (hp_wr 2 σ))) := if_pos cb
        have e2 : hp_loop (hp_work (hp_lift M C h ta lo n) h ta lo) (C r) (rem + 1) k σ = (some (some (7, [])), hp_cl (hp_exc (hp_wr 3 (hp_wr 2 σ)))) := hp_loop_7 cb
        rw [e2] at hq
        have e3 : hp_ex qF.2 = hp_ex σ + 1 := by rw [← hq]; rfl
        have e4 : hp_ex (hp_exc (hp_wr 3 (hp_wr 2 σ))) = hp_ex σ + 1 := rfl
        rw [e1]
        dsimp only
        omega
      · have e1 : hp_bgn (hp_wr 3 (hp_wr 2 σ)) = (none, hp_beg (hp_wr 3 (hp_wr 2 σ))) := if_neg cb
        rw [e1]
        exact ⟨Nat.le_refl _, hexF⟩
    refine hr_callO (As := []) X (k_X0_begin l X.2.1 h0 (σ := (hp_wr 3 (hp_wr 2 σ))) hbg (sz := H.size) (Nat.le_trans hzz hS.1)) v_X0_begin (lw_meth q328) hS hreg (hr_cG.recv X hC) hC rfl rfl (hr_lR2 (by decide) ⟨by show 4 + 1 ≤ 3 * (n + 1) + 10; omega, by show 40 * (4 + 1) + 10300 ≤ 40 * (3 * (n + 1) + 10) + 10300; omega⟩) hl.1 rfl (Nat.le_of_ble_eq_true rfl) ⟨by show 3 * (hp_ex σ - hp_ex σ0) + 3 * (hp_ex (hp_bgn (hp_wr 3 (hp_wr 2 σ))).2 - hp_ex σ) ≤ 3 * (hp_ex qF.2 - hp_ex σ0); omega, by show 44 * (hp_ex σ - hp_ex σ0) + 44 * (hp_ex (hp_bgn (hp_wr 3 (hp_wr 2 σ))).2 - hp_ex σ) ≤ 44 * (hp_ex qF.2 - hp_ex σ0); omega⟩ dX0_lift_126 (fun hqb H locs hC hS hkp => ?_) (fun x a hqb H locs hE hC hS hkp => ?_)
    · have cb : ¬ hp_bg σ = 300 := by
        intro cb
        have e1 : hp_bgn (hp_wr 3 (hp_wr 2 σ)) = (some (7, []), hp_exc (hp_wr 3 (hp_wr 2 σ))) := if_pos cb
        rw [e1] at hqb
        cases hqb
      have eb : hp_bgn (hp_wr 3 (hp_wr 2 σ)) = (none, hp_beg (hp_wr 3 (hp_wr 2 σ))) := if_neg cb
      rw [eb] at hC
      have hC : hr_cG D g b z M C h ta lo f (nI (6 - n)) (nI (6 - n)) (br + 1) (lm + 1) (hp_beg (hp_wr 3 (hp_wr 2 σ))) H := hC
      refine W.widen (k := 3 * (hp_ex σ - hp_ex σ0)) (n := 44 * (hp_ex σ - hp_ex σ0)) (by rw [eb]; show 3 * (hp_ex σ - hp_ex σ0) + 3 * (hp_ex σ - hp_ex σ) ≤ 3 * (hp_ex σ - hp_ex σ0); omega) (by rw [eb]; show 44 * (hp_ex σ - hp_ex σ0) + 44 * (hp_ex σ - hp_ex σ) ≤ 44 * (hp_ex σ - hp_ex σ0); omega) ?_
      have f3 : hp_n (hp_wr (-3) (hp_beg (hp_wr 3 (hp_wr 2 σ)))) = hp_n σ + 3 := rfl
      have f2 : hp_n (hp_beg (hp_wr 3 (hp_wr 2 σ))) = hp_n σ + 2 := rfl
      have f4 : hp_n (hp_cl (hp_beg (hp_wr 3 (hp_wr 2 σ)))) = hp_n σ + 4 := rfl
      have hbg2 : hp_bg (hp_beg (hp_wr 3 (hp_wr 2 σ))) ≤ 300 := by show hp_bg σ + 1 ≤ 300; omega
      refine lv_iload X.ex X.by dX0_lift_129 (lv_at hl 0 rfl) ?_
      refine lv_bipush (v := (-2)) X.ex X.by dX0_lift_131 (by decide) ?_
      refine lv_icmp_ne (tgt := 171) X.ex X.by dX0_lift_133 (by decide) (fun c_133 => ?_) (fun c_133 => ?_)
      · have c2 : ¬ C r k = -2 := c_133
        refine lv_iload X.ex X.by dX0_lift_171 (lv_at hl 0 rfl) ?_
        refine lv_bipush (v := (-3)) X.ex X.by dX0_lift_173 (by decide) ?_
        refine lv_icmp_ne (tgt := 213) X.ex X.by dX0_lift_175 (by decide) (fun c_175 => ?_) (fun c_175 => ?_)
        · have c3 : ¬ C r k = -3 := c_175
          refine lv_iload X.ex X.by dX0_lift_213 (lv_at hl 0 rfl) ?_
          refine lv_bipush (v := (-4)) X.ex X.by dX0_lift_215 (by decide) ?_
          refine lv_icmp_ne (tgt := 278) X.ex X.by dX0_lift_217 (by decide) (fun c_217 => ?_) (fun c_217 => ?_)
          · have c4 : ¬ C r k = -4 := c_217
            refine lv_aload_n X.ex X.by dX0_lift_278 rfl (lv_at hl 4 rfl) ?_
            refine lv_iload X.ex X.by dX0_lift_279 (lv_at hl 0 rfl) ?_
            obtain ⟨qw, hqw⟩ : ∃ qw, qw = hp_work (hp_lift M C h ta lo n) h ta lo (C r k) (hp_beg (hp_wr 3 (hp_wr 2 σ))) := ⟨_, rfl⟩
            have hwu := hp_work_up (h := h) (ta := ta) (lo := lo) hacc (C r k) (hp_beg (hp_wr 3 (hp_wr 2 σ))) hbg2
            have hww := hp_work_qw (h := h) (ta := ta) (lo := lo) (fun r σ hσ => hp_lift_qw (M := M) (C := C) (h := h) (ta := ta) (lo := lo) n r σ (by omega) hσ) (C r k) (hp_beg (hp_wr 3 (hp_wr 2 σ))) hmr
            rw [← hqw] at hwu hww
            have hxw : hp_ex σ ≤ hp_ex qw.2 := hwu.2.1
            have hqe : hp_n qw.2 + 3 ≤ hp_n qF.2 ∧ hp_ex qw.2 ≤ hp_ex qF.2 := by
              obtain ⟨o9, τ9⟩ := qw
              cases o9 with
              | none =>
                rw [hp_loop_n cb c2 c3 c4 hqw.symm] at hq
                rw [← hq]
                have u1 := hp_loop_up (h := h) (ta := ta) (lo := lo) (C1 := C r) hacc rem (k + 1) (hp_wr 5 (hp_cl τ9)) hwu.2.2
                have u2 := hp_end_up (hp_loop (hp_work (hp_lift M C h ta lo n) h ta lo) (C r) rem (k + 1) (hp_wr 5 (hp_cl τ9)))
                have u3 : hp_n (hp_wr 5 (hp_cl τ9)) = hp_n τ9 + 3 := rfl
                have u4 : hp_ex (hp_wr 5 (hp_cl τ9)) = hp_ex τ9 := rfl
                have v1 := u1.1
                have v2 := u1.2.1
                dsimp only
                omega
              | some x =>
                rw [hp_loop_x cb c2 c3 c4 hqw.symm] at hq
                rw [← hq]
                exact ⟨Nat.le_refl _, Nat.le_refl _⟩
            refine hr_callO (As := [.int (C r k)]) X (k_X0_work l X.2.1 h0 (n := n) (by omega) hL hfl (br := br + 1) (lm := lm + 1) hokk c2 c3 c4 hbg2 hmr (by rw [← hqw]; omega) (sz := H.size) (Nat.le_trans hzz hS.1)) v_X0_work (lw_meth q347) hS hreg (hr_cG.recv X hC) hC rfl rfl (hr_lR2 (by decide) ⟨by show 3 * n + 12 + 1 ≤ 3 * (n + 1) + 10; omega, by show 40 * (3 * n + 12 + 1) + 10300 ≤ 40 * (3 * (n + 1) + 10) + 10300; omega⟩) hl.1 rfl (Nat.le_of_ble_eq_true rfl) ⟨by rw [← hqw]; show 3 * (hp_ex σ - hp_ex σ0) + 3 * (hp_ex qw.2 - hp_ex σ) ≤ 3 * (hp_ex qF.2 - hp_ex σ0); omega, by rw [← hqw]; show 44 * (hp_ex σ - hp_ex σ0) + 44 * (hp_ex qw.2 - hp_ex σ) ≤ 44 * (hp_ex qF.2 - hp_ex σ0); omega⟩ dX0_lift_281 (fun hqn H locs hC hS hkp => ?_) (fun x a hqn H locs hE hC hS hkp => ?_)
            · rw [← hqw] at hqn hC ⊢
              refine W.widen (k := 3 * (hp_ex qw.2 - hp_ex σ0)) (n := 44 * (hp_ex qw.2 - hp_ex σ0)) (by show 3 * (hp_ex σ - hp_ex σ0) + 3 * (hp_ex qw.2 - hp_ex σ) ≤ 3 * (hp_ex qw.2 - hp_ex σ0); omega) (by show 44 * (hp_ex σ - hp_ex σ0) + 44 * (hp_ex qw.2 - hp_ex σ) ≤ 44 * (hp_ex qw.2 - hp_ex σ0); omega) ?_
              obtain ⟨o9, τ⟩ := qw
              have hqn : o9 = none := hqn
              subst hqn
              rw [hp_loop_n cb c2 c3 c4 hqw.symm] at hq
              have hqe : hp_n τ + 3 ≤ hp_n qF.2 ∧ hp_ex τ ≤ hp_ex qF.2 := hqe
              have hxw : hp_ex σ ≤ hp_ex τ := hxw
              have hC : hr_cG D g b z M C h ta lo f (nI (6 - n)) (nI (6 - n)) (br + 1) (lm + 1) τ H := hC
              have f3 : hp_n (hp_wr (-3) τ) = hp_n τ + 1 := rfl
              have f4 : hp_n (hp_cl τ) = hp_n τ + 2 := rfl
              have f5 : hp_n (hp_wr (-2) (hp_wr (-3) τ)) = hp_n τ + 2 := rfl
              refine lv_aload_n X.ex X.by dX0_lift_284 rfl (lv_at hl 4 rfl) ?_
              refine lv_dup X.ex X.by dX0_lift_285 rfl ?_
              refine hr_cget X hC 10 (by decide) rfl q77 dX0_lift_286 ?_
              refine lv_iconst (v := 1) X.ex X.by dX0_lift_289 (by decide) ?_
              refine lv_isub X.ex X.by dX0_lift_290 ?_
              refine hr_cput X hC hS hreg 10 (by decide) (Nat.le_of_ble_eq_true rfl) rfl rfl q77 dX0_lift_291 (fun H locs hC hS _ => ?_)
              rw [hr_pm] at hC
              refine lv_aload_n X.ex X.by dX0_lift_294 rfl (lv_at hl 4 rfl) ?_
              refine lv_bipush (v := (-3)) X.ex X.by dX0_lift_295 (by decide) ?_
              have hC : hr_cG D g b z M C h ta lo f (nI (6 - n)) (nI (6 - n)) (br + 1) lm τ H := hC
              refine c_X0_write X hC (by omega) hS hreg ⟨by show 1 ≤ 3 * (n + 1) + 10; omega, by show 40 ≤ 40 * (3 * (n + 1) + 10) + 10300; omega⟩ ⟨by show 3 * (hp_ex τ - hp_ex σ0) ≤ 3 * (hp_ex qF.2 - hp_ex σ0); omega, by show 44 * (hp_ex τ - hp_ex σ0) ≤ 44 * (hp_ex qF.2 - hp_ex σ0); omega⟩ hl.1 (Nat.le_of_ble_eq_true rfl) dX0_lift_297 (fun H locs hC hS hk => ?_)
              refine lv_goto (tgt := 324) X.ex X.by dX0_lift_300 (by decide) ?_
              refine lv_aload_n X.ex X.by dX0_lift_324 rfl (lv_at hl 4 rfl) ?_
              refine lv_dup X.ex X.by dX0_lift_325 rfl ?_
              refine hr_cget X hC 9 (by decide) rfl q76 dX0_lift_326 ?_
              refine lv_iconst (v := 1) X.ex X.by dX0_lift_329 (by decide) ?_
              refine lv_isub X.ex X.by dX0_lift_330 ?_
              refine hr_cput X hC hS hreg 9 (by decide) (Nat.le_of_ble_eq_true rfl) rfl rfl q76 dX0_lift_331 (fun H locs hC hS _ => ?_)
              rw [hr_pm] at hC
              refine lv_aload_n X.ex X.by dX0_lift_334 rfl (lv_at hl 4 rfl) ?_
              refine lv_bipush (v := (-2)) X.ex X.by dX0_lift_335 (by decide) ?_
              have hC : hr_cG D g b z M C h ta lo f (nI (6 - n)) (nI (6 - n)) br lm (hp_wr (-3) τ) H := hC
              refine c_X0_write X hC (by omega) hS hreg ⟨by show 1 ≤ 3 * (n + 1) + 10; omega, by show 40 ≤ 40 * (3 * (n + 1) + 10) + 10300; omega⟩ ⟨by show 3 * (hp_ex τ - hp_ex σ0) ≤ 3 * (hp_ex qF.2 - hp_ex σ0); omega, by show 44 * (hp_ex τ - hp_ex σ0) ≤ 44 * (hp_ex qF.2 - hp_ex σ0); omega⟩ hl.1 (Nat.le_of_ble_eq_true rfl) dX0_lift_337 (fun H locs hC hS hk => ?_)
              refine lv_goto (tgt := 364) X.ex X.by dX0_lift_340 (by decide) ?_
              refine lv_aload_n X.ex X.by dX0_lift_364 rfl (lv_at hl 4 rfl) ?_
              refine lv_iconst (v := 5) X.ex X.by dX0_lift_365 (by decide) ?_
              refine c_X0_write X hC (by omega) hS hreg ⟨by show 1 ≤ 3 * (n + 1) + 10; omega, by show 40 ≤ 40 * (3 * (n + 1) + 10) + 10300; omega⟩ ⟨by show 3 * (hp_ex τ - hp_ex σ0) ≤ 3 * (hp_ex qF.2 - hp_ex σ0); omega, by show 44 * (hp_ex τ - hp_ex σ0) ≤ 44 * (hp_ex qF.2 - hp_ex σ0); omega⟩ hl.1 (Nat.le_of_ble_eq_true rfl) dX0_lift_366 (fun H locs hC hS hk => ?_)
              refine lv_iinc (v := nI (k + 1)) X.ex X.by dX0_lift_369 hl (k := 1) rfl (nI_1 k) (by decide) rfl (fun ls hl => ?_)
              refine lv_goto (tgt := 79) X.ex X.by dX0_lift_372 (by decide) ?_
              exact ih (k + 1) (hp_wr 5 (hp_cl τ)) H locs ls (by omega) hq hwu.2.2 hww.2 (Nat.le_trans hle hxw) hC hS (lv_sub hl [0, 2, 3, 4] rfl)
            · rw [← hqw] at hqn hC ⊢
              refine hr_T.widen (k := 3 * (hp_ex qw.2 - hp_ex σ0)) (n := 44 * (hp_ex qw.2 - hp_ex σ0)) (by show 3 * (hp_ex σ - hp_ex σ0) + 3 * (hp_ex qw.2 - hp_ex σ) ≤ 3 * (hp_ex qw.2 - hp_ex σ0); omega) (by show 44 * (hp_ex σ - hp_ex σ0) + 44 * (hp_ex qw.2 - hp_ex σ) ≤ 44 * (hp_ex qw.2 - hp_ex σ0); omega) ?_
              obtain ⟨o9, τ⟩ := qw
              have hqn : o9 = some x := hqn
              subst hqn
              rw [hp_loop_x cb c2 c3 c4 hqw.symm] at hq
              have hqe : hp_n τ + 3 ≤ hp_n qF.2 ∧ hp_ex τ ≤ hp_ex qF.2 := hqe
              have hxw : hp_ex σ ≤ hp_ex τ := hxw
              have hC : hr_cG D g b z M C h ta lo f (nI (6 - n)) (nI (6 - n)) (br + 1) (lm + 1) τ H := hC
              refine hr_catch X htab hr_rwL (hr_xz_lt x) (hE.xc X) (hpc := 303) rfl ?_
              exact lift_303 (τ := τ) X hr hlk htab hn6 hnn (by rw [← hq]; rfl) (Nat.le_trans hle hxw) hE hC hS (lv_sub hl [4] rfl)
          · have c4 : C r k = -4 := c_217
            have el : hp_loop (hp_work (hp_lift M C h ta lo n) h ta lo) (C r) (rem + 1) k σ = (some none, (hp_cl (hp_beg (hp_wr 3 (hp_wr 2 σ))))) := hp_loop_4 cb c2 c3 c4
            rw [el] at hq
            refine lv_aload_n X.ex X.by dX0_lift_220 rfl (lv_at hl 4 rfl) ?_
            refine lv_dup X.ex X.by dX0_lift_221 rfl ?_
            refine hr_cget X hC 10 (by decide) rfl q77 dX0_lift_222 ?_
            refine lv_iconst (v := 1) X.ex X.by dX0_lift_225 (by decide) ?_
            refine lv_isub X.ex X.by dX0_lift_226 ?_
            refine hr_cput X hC hS hreg 10 (by decide) (Nat.le_of_ble_eq_true rfl) rfl rfl q77 dX0_lift_227 (fun H locs hC hS _ => ?_)
            rw [hr_pm] at hC
            refine lv_aload_n X.ex X.by dX0_lift_230 rfl (lv_at hl 4 rfl) ?_
            refine lv_bipush (v := (-3)) X.ex X.by dX0_lift_231 (by decide) ?_
            have hC : hr_cG D g b z M C h ta lo f (nI (6 - n)) (nI (6 - n)) (br + 1) lm (hp_beg (hp_wr 3 (hp_wr 2 σ))) H := hC
            refine c_X0_write X hC (by omega) hS hreg ⟨by show 1 ≤ 3 * (n + 1) + 10; omega, by show 40 ≤ 40 * (3 * (n + 1) + 10) + 10300; omega⟩ ⟨by show 3 * (hp_ex σ - hp_ex σ0) ≤ 3 * (hp_ex qF.2 - hp_ex σ0); omega, by show 44 * (hp_ex σ - hp_ex σ0) ≤ 44 * (hp_ex qF.2 - hp_ex σ0); omega⟩ hl.1 (Nat.le_of_ble_eq_true rfl) dX0_lift_233 (fun H locs hC hS hk => ?_)
            refine lv_aload_n X.ex X.by dX0_lift_236 rfl (lv_at hl 4 rfl) ?_
            refine lv_dup X.ex X.by dX0_lift_237 rfl ?_
            refine hr_cget X hC 9 (by decide) rfl q76 dX0_lift_238 ?_
            refine lv_iconst (v := 1) X.ex X.by dX0_lift_241 (by decide) ?_
            refine lv_isub X.ex X.by dX0_lift_242 ?_
            refine hr_cput X hC hS hreg 9 (by decide) (Nat.le_of_ble_eq_true rfl) rfl rfl q76 dX0_lift_243 (fun H locs hC hS _ => ?_)
            rw [hr_pm] at hC
            refine lv_aload_n X.ex X.by dX0_lift_246 rfl (lv_at hl 4 rfl) ?_
            refine lv_bipush (v := (-2)) X.ex X.by dX0_lift_247 (by decide) ?_
            have hC : hr_cG D g b z M C h ta lo f (nI (6 - n)) (nI (6 - n)) br lm (hp_wr (-3) (hp_beg (hp_wr 3 (hp_wr 2 σ)))) H := hC
            refine c_X0_write X hC (by omega) hS hreg ⟨by show 1 ≤ 3 * (n + 1) + 10; omega, by show 40 ≤ 40 * (3 * (n + 1) + 10) + 10300; omega⟩ ⟨by show 3 * (hp_ex σ - hp_ex σ0) ≤ 3 * (hp_ex qF.2 - hp_ex σ0); omega, by show 44 * (hp_ex σ - hp_ex σ0) ≤ 44 * (hp_ex qF.2 - hp_ex σ0); omega⟩ hl.1 (Nat.le_of_ble_eq_true rfl) dX0_lift_249 (fun H locs hC hS hk => ?_)
            refine lv_aload_n X.ex X.by dX0_lift_252 rfl (lv_at hl 4 rfl) ?_
            refine lv_dup X.ex X.by dX0_lift_253 rfl ?_
            refine hr_cget X hC 6 (by decide) rfl q73 dX0_lift_254 ?_
            refine lv_iconst (v := 1) X.ex X.by dX0_lift_257 (by decide) ?_
            refine lv_isub X.ex X.by dX0_lift_258 ?_
            refine hr_cput X hC hS hreg 6 (by decide) (Nat.le_of_ble_eq_true rfl) rfl rfl q73 dX0_lift_259 (fun H locs hC hS _ => ?_)
            rw [hr_nd hn6] at hC
            refine lv_aload_n X.ex X.by dX0_lift_262 rfl (lv_at hl 4 rfl) ?_
            refine lv_dup X.ex X.by dX0_lift_263 rfl ?_
            refine hr_cget X hC 8 (by decide) rfl q75 dX0_lift_264 ?_
            refine lv_iconst (v := 1) X.ex X.by dX0_lift_267 (by decide) ?_
            refine lv_isub X.ex X.by dX0_lift_268 ?_
            refine hr_cput X hC hS hreg 8 (by decide) (Nat.le_of_ble_eq_true rfl) rfl rfl q75 dX0_lift_269 (fun H locs hC hS _ => ?_)
            rw [hr_nd hn6] at hC
            refine lv_aload_n X.ex X.by dX0_lift_272 rfl (lv_at hl 4 rfl) ?_
            refine lv_iconst (v := (-1)) X.ex X.by dX0_lift_273 (by decide) ?_
            have hC : hr_cG D g b z M C h ta lo f (nI (6 - (n + 1))) (nI (6 - (n + 1))) br lm (hp_cl (hp_beg (hp_wr 3 (hp_wr 2 σ)))) H := hC
            refine c_X0_write X hC (by omega) hS hreg ⟨by show 1 ≤ 3 * (n + 1) + 10; omega, by show 40 ≤ 40 * (3 * (n + 1) + 10) + 10300; omega⟩ ⟨by show 3 * (hp_ex σ - hp_ex σ0) ≤ 3 * (hp_ex qF.2 - hp_ex σ0); omega, by show 44 * (hp_ex σ - hp_ex σ0) ≤ 44 * (hp_ex qF.2 - hp_ex σ0); omega⟩ hl.1 (Nat.le_of_ble_eq_true rfl) dX0_lift_274 (fun H locs hC hS hk => ?_)
            exact hr_vret X hr hlk hS (Or.inl ⟨by rw [← hq]; rfl, rfl, by rw [← hq]; exact hC⟩) (by show 3 * (hp_ex σ - hp_ex σ0) ≤ 3 * (hp_ex qF.2 - hp_ex σ0); omega) (by show 44 * (hp_ex σ - hp_ex σ0) ≤ 44 * (hp_ex qF.2 - hp_ex σ0); omega) dX0_lift_277
        · have c3 : C r k = -3 := c_175
          have el : hp_loop (hp_work (hp_lift M C h ta lo n) h ta lo) (C r) (rem + 1) k σ = hp_loop (hp_work (hp_lift M C h ta lo n) h ta lo) (C r) rem (k + 1) (hp_cl (hp_beg (hp_wr 3 (hp_wr 2 σ)))) := hp_loop_3 cb c2 c3
          rw [el] at hq
          refine lv_aload_n X.ex X.by dX0_lift_178 rfl (lv_at hl 4 rfl) ?_
          refine lv_dup X.ex X.by dX0_lift_179 rfl ?_
          refine hr_cget X hC 10 (by decide) rfl q77 dX0_lift_180 ?_
          refine lv_iconst (v := 1) X.ex X.by dX0_lift_183 (by decide) ?_
          refine lv_isub X.ex X.by dX0_lift_184 ?_
          refine hr_cput X hC hS hreg 10 (by decide) (Nat.le_of_ble_eq_true rfl) rfl rfl q77 dX0_lift_185 (fun H locs hC hS _ => ?_)
          rw [hr_pm] at hC
          refine lv_aload_n X.ex X.by dX0_lift_188 rfl (lv_at hl 4 rfl) ?_
          refine lv_bipush (v := (-3)) X.ex X.by dX0_lift_189 (by decide) ?_
          have hC : hr_cG D g b z M C h ta lo f (nI (6 - n)) (nI (6 - n)) (br + 1) lm (hp_beg (hp_wr 3 (hp_wr 2 σ))) H := hC
          refine c_X0_write X hC (by omega) hS hreg ⟨by show 1 ≤ 3 * (n + 1) + 10; omega, by show 40 ≤ 40 * (3 * (n + 1) + 10) + 10300; omega⟩ ⟨by show 3 * (hp_ex σ - hp_ex σ0) ≤ 3 * (hp_ex qF.2 - hp_ex σ0); omega, by show 44 * (hp_ex σ - hp_ex σ0) ≤ 44 * (hp_ex qF.2 - hp_ex σ0); omega⟩ hl.1 (Nat.le_of_ble_eq_true rfl) dX0_lift_191 (fun H locs hC hS hk => ?_)
          refine lv_aload_n X.ex X.by dX0_lift_194 rfl (lv_at hl 4 rfl) ?_
          refine lv_dup X.ex X.by dX0_lift_195 rfl ?_
          refine hr_cget X hC 9 (by decide) rfl q76 dX0_lift_196 ?_
          refine lv_iconst (v := 1) X.ex X.by dX0_lift_199 (by decide) ?_
          refine lv_isub X.ex X.by dX0_lift_200 ?_
          refine hr_cput X hC hS hreg 9 (by decide) (Nat.le_of_ble_eq_true rfl) rfl rfl q76 dX0_lift_201 (fun H locs hC hS _ => ?_)
          rw [hr_pm] at hC
          refine lv_aload_n X.ex X.by dX0_lift_204 rfl (lv_at hl 4 rfl) ?_
          refine lv_bipush (v := (-2)) X.ex X.by dX0_lift_205 (by decide) ?_
          have hC : hr_cG D g b z M C h ta lo f (nI (6 - n)) (nI (6 - n)) br lm (hp_wr (-3) (hp_beg (hp_wr 3 (hp_wr 2 σ)))) H := hC
          refine c_X0_write X hC (by omega) hS hreg ⟨by show 1 ≤ 3 * (n + 1) + 10; omega, by show 40 ≤ 40 * (3 * (n + 1) + 10) + 10300; omega⟩ ⟨by show 3 * (hp_ex σ - hp_ex σ0) ≤ 3 * (hp_ex qF.2 - hp_ex σ0); omega, by show 44 * (hp_ex σ - hp_ex σ0) ≤ 44 * (hp_ex qF.2 - hp_ex σ0); omega⟩ hl.1 (Nat.le_of_ble_eq_true rfl) dX0_lift_207 (fun H locs hC hS hk => ?_)
          refine lv_goto (tgt := 369) X.ex X.by dX0_lift_210 (by decide) ?_
          refine lv_iinc (v := nI (k + 1)) X.ex X.by dX0_lift_369 hl (k := 1) rfl (nI_1 k) (by decide) rfl (fun ls hl => ?_)
          refine lv_goto (tgt := 79) X.ex X.by dX0_lift_372 (by decide) ?_
          exact ih (k + 1) (hp_cl (hp_beg (hp_wr 3 (hp_wr 2 σ)))) H locs ls (by omega) hq hbg2 hmr hle hC hS (lv_sub hl [0, 2, 3, 4] rfl)
      · have c2 : C r k = -2 := c_133
        have el : hp_loop (hp_work (hp_lift M C h ta lo n) h ta lo) (C r) (rem + 1) k σ = (none, (hp_cl (hp_beg (hp_wr 3 (hp_wr 2 σ))))) := hp_loop_2 cb c2
        rw [el] at hq
        refine lv_aload_n X.ex X.by dX0_lift_136 rfl (lv_at hl 4 rfl) ?_
        refine lv_dup X.ex X.by dX0_lift_137 rfl ?_
        refine hr_cget X hC 10 (by decide) rfl q77 dX0_lift_138 ?_
        refine lv_iconst (v := 1) X.ex X.by dX0_lift_141 (by decide) ?_
        refine lv_isub X.ex X.by dX0_lift_142 ?_
        refine hr_cput X hC hS hreg 10 (by decide) (Nat.le_of_ble_eq_true rfl) rfl rfl q77 dX0_lift_143 (fun H locs hC hS _ => ?_)
        rw [hr_pm] at hC
        refine lv_aload_n X.ex X.by dX0_lift_146 rfl (lv_at hl 4 rfl) ?_
        refine lv_bipush (v := (-3)) X.ex X.by dX0_lift_147 (by decide) ?_
        have hC : hr_cG D g b z M C h ta lo f (nI (6 - n)) (nI (6 - n)) (br + 1) lm (hp_beg (hp_wr 3 (hp_wr 2 σ))) H := hC
        refine c_X0_write X hC (by omega) hS hreg ⟨by show 1 ≤ 3 * (n + 1) + 10; omega, by show 40 ≤ 40 * (3 * (n + 1) + 10) + 10300; omega⟩ ⟨by show 3 * (hp_ex σ - hp_ex σ0) ≤ 3 * (hp_ex qF.2 - hp_ex σ0); omega, by show 44 * (hp_ex σ - hp_ex σ0) ≤ 44 * (hp_ex qF.2 - hp_ex σ0); omega⟩ hl.1 (Nat.le_of_ble_eq_true rfl) dX0_lift_149 (fun H locs hC hS hk => ?_)
        refine lv_aload_n X.ex X.by dX0_lift_152 rfl (lv_at hl 4 rfl) ?_
        refine lv_dup X.ex X.by dX0_lift_153 rfl ?_
        refine hr_cget X hC 9 (by decide) rfl q76 dX0_lift_154 ?_
        refine lv_iconst (v := 1) X.ex X.by dX0_lift_157 (by decide) ?_
        refine lv_isub X.ex X.by dX0_lift_158 ?_
        refine hr_cput X hC hS hreg 9 (by decide) (Nat.le_of_ble_eq_true rfl) rfl rfl q76 dX0_lift_159 (fun H locs hC hS _ => ?_)
        rw [hr_pm] at hC
        refine lv_aload_n X.ex X.by dX0_lift_162 rfl (lv_at hl 4 rfl) ?_
        refine lv_bipush (v := (-2)) X.ex X.by dX0_lift_163 (by decide) ?_
        have hC : hr_cG D g b z M C h ta lo f (nI (6 - n)) (nI (6 - n)) br lm (hp_wr (-3) (hp_beg (hp_wr 3 (hp_wr 2 σ)))) H := hC
        refine c_X0_write X hC (by omega) hS hreg ⟨by show 1 ≤ 3 * (n + 1) + 10; omega, by show 40 ≤ 40 * (3 * (n + 1) + 10) + 10300; omega⟩ ⟨by show 3 * (hp_ex σ - hp_ex σ0) ≤ 3 * (hp_ex qF.2 - hp_ex σ0); omega, by show 44 * (hp_ex σ - hp_ex σ0) ≤ 44 * (hp_ex qF.2 - hp_ex σ0); omega⟩ hl.1 (Nat.le_of_ble_eq_true rfl) dX0_lift_165 (fun H locs hC hS hk => ?_)
        refine lv_goto (tgt := 375) X.ex X.by dX0_lift_168 (by decide) ?_
        exact lift_375 (τ := (hp_cl (hp_beg (hp_wr 3 (hp_wr 2 σ))))) X hr hlk htab hn6 hnn (by rw [← hq]; rfl) hle hC hS (lv_sub hl [4] rfl)
    · have cb : hp_bg σ = 300 := Classical.byContradiction (fun cb => by
        have e1 : hp_bgn (hp_wr 3 (hp_wr 2 σ)) = (none, hp_beg (hp_wr 3 (hp_wr 2 σ))) := if_neg cb
        rw [e1] at hqb
        cases hqb)
      have eb : hp_bgn (hp_wr 3 (hp_wr 2 σ)) = (some (7, []), hp_exc (hp_wr 3 (hp_wr 2 σ))) := if_pos cb
      rw [eb] at hqb hC
      have ex7 : x = (7, []) := by cases hqb; rfl
      subst ex7
      have hC : hr_cG D g b z M C h ta lo f (nI (6 - n)) (nI (6 - n)) (br + 1) (lm + 1) (hp_exc (hp_wr 3 (hp_wr 2 σ))) H := hC
      have el : hp_loop (hp_work (hp_lift M C h ta lo n) h ta lo) (C r) (rem + 1) k σ = (some (some (7, [])), hp_cl (hp_exc (hp_wr 3 (hp_wr 2 σ)))) := hp_loop_7 cb
      rw [el] at hq
      refine hr_T.widen (k := 3 * (hp_ex (hp_exc (hp_wr 3 (hp_wr 2 σ))) - hp_ex σ0)) (n := 44 * (hp_ex (hp_exc (hp_wr 3 (hp_wr 2 σ))) - hp_ex σ0)) (by rw [eb]; show 3 * (hp_ex σ - hp_ex σ0) + 3 * (hp_ex σ + 1 - hp_ex σ) ≤ 3 * (hp_ex σ + 1 - hp_ex σ0); omega) (by rw [eb]; show 44 * (hp_ex σ - hp_ex σ0) + 44 * (hp_ex σ + 1 - hp_ex σ) ≤ 44 * (hp_ex σ + 1 - hp_ex σ0); omega) ?_
      refine hr_catch X htab hr_rwL (hr_xz_lt (7, [])) (hr_E.xc (x := (7, [])) X hE) (hpc := 303) rfl ?_
      exact lift_303 (x := (7, [])) (τ := hp_exc (hp_wr 3 (hp_wr 2 σ))) X hr hlk htab hn6 hnn (by rw [← hq]; rfl) (Nat.le_trans hle (Nat.le_succ _)) hE hC hS (lv_sub hl [4] rfl)
end HRLF
end
section
/-! THE CLASS: lift for every depth, behind, run -/
section HRLG
set_option maxHeartbeats 4000000 in
theorem lift_0 (l : Launch) {s0 : State} {D : va_G} {g : ClassId × ClassId × ClassId} (Z : hr_Z s0 D g) {b z : Nat} (h0 : s0.heap.size ≤ b) {M : Nat → Nat} {C : Nat → Nat → Int32} {h : Nat → Int32} {ta lo : Int32} {f : Int32 × Int32 × Int32 × Int32} : hr_CL l s0 D g b z M C h ta lo f 0 := by
  intro r σ br lm sz hr8 hbg hmr hnn hzz
  have eq : hp_lift M C h ta lo 0 r σ = (some (6, []), hp_exc σ) := rfl
  rw [eq]
  have hx1 : hp_ex (hp_exc σ) = hp_ex σ + 1 := rfl
  refine hr_methH (by decide) (Nat.le_of_ble_eq_true rfl) Z h0 ?_
  intro p e s m0 below meth c ls X hr hlk htab hadm hsz hC hl
  have hl : lv_has ls 8 [(0, _), (1, _)] := hl
  have hS := hr_S0 (s := s) (lo := b) (n := 20)
  have hSz : s.heap.size ≤ s.heap.size := Nat.le_refl _
  refine lv_aload_n X.ex X.by dX0_lift_0 rfl (lv_at hl 0 rfl) ?_
  refine hr_cget X hC 6 (by decide) rfl q73 dX0_lift_1 ?_
  refine lv_bipush (v := 6) X.ex X.by dX0_lift_4 (by decide) ?_
  refine lv_icmp_ne (tgt := 19) X.ex X.by dX0_lift_6 (by decide) (fun c_6 => absurd (by decide : nI (6 - 0) = 6) c_6) (fun _ => ?_)
  refine hr_newM X hr_i4 hS q155 q297 q38 (fs := [.null, .null, .null, .null, .null, .int 0, .int 0]) (fun j hj => by rcases (show j = 0 ∨ j = 1 ∨ j = 2 ∨ j = 3 ∨ j = 4 ∨ j = 5 ∨ j = 6 by omega) with rfl | rfl | rfl | rfl | rfl | rfl | rfl <;> rfl) (by show 0 + 1 ≤ 3 * (hp_ex (hp_exc σ) - hp_ex σ); omega) (by show 0 + 7 ≤ 44 * (hp_ex (hp_exc σ) - hp_ex σ); omega) dX0_lift_9 (fun a2 H2 ha2 hO2 hM2 zN oN hS => ?_)
  have hC2 := hC
  refine lv_dup X.ex X.by dX0_lift_12 rfl ?_
  refine lv_bipush (v := 6) X.ex X.by dX0_lift_13 (by decide) ?_
  refine hr_callIv (As := [.int 6]) (lo := a2) (n := 1) (mc := 0) (ms := 0) X (k_X4_init l X.2.1 (by have := X.size; have := hS.1; omega) 6) v_X4_init (lw_meth q307) hS (fun q hq1 hq2 => Or.inr (by have := hSz; omega)) ⟨hO2, hM2⟩ rfl rfl (hr_lR (by decide) ⟨Nat.le_of_ble_eq_true rfl, Nat.le_of_ble_eq_true rfl⟩) hl.1 rfl (Nat.le_of_ble_eq_true rfl) ⟨by show 0 + 1 + 0 ≤ 3 * (hp_ex (hp_exc σ) - hp_ex σ); omega, by show 0 + 7 + 0 ≤ 44 * (hp_ex (hp_exc σ) - hp_ex σ); omega⟩ dX0_lift_15 (fun H locs hP hS hk => ?_)
  obtain ⟨qs, hO2, hM2⟩ := hP
  have hold : ∀ q : Nat, q < _ → H[q]? = _ := fun q hq => (hk.2 q (by rw [zN]; exact Nat.lt_succ_of_lt hq) (by omega)).trans (oN q hq)
  have hC := hr_cw.keptN hC2 hold
  refine hr_athrow X.ex X.by dX0_lift_18 ?_
  have hE := hr_E.stuck (z := z) (k := 6) X (by omega) rfl hO2 hM2
  exact hr_leave X hlk htab hr_rwL (hr_xz_lt (6, [])) (hr_E.xc (x := (6, [])) X hE) rfl hS (Or.inr ⟨(6, []), a2, rfl, rfl, hE, hC⟩) (by show 0 + 1 + 0 ≤ 3 * (hp_ex (hp_exc σ) - hp_ex σ); omega) (by show 0 + 7 + 0 ≤ 44 * (hp_ex (hp_exc σ) - hp_ex σ); omega)
set_option maxHeartbeats 4000000 in
theorem lift_all (l : Launch) (hfl : l.flags = flags0) {s0 : State} {D : va_G} {g : ClassId × ClassId × ClassId} (Z : hr_Z s0 D g) {b z : Nat} (h0 : s0.heap.size ≤ b) {M : Nat → Nat} {C : Nat → Nat → Int32} {h : Nat → Int32} {ta lo : Int32} {f : Int32 × Int32 × Int32 × Int32} (hM : ∀ r, r < 8 → M r ≤ 12) (hok : ∀ r k, r < 8 → k < M r → hp_ok (C r k)) : ∀ n : Nat, n ≤ 6 → hr_CL l s0 D g b z M C h ta lo f n := by
  intro n
  induction n with
  | zero => intro _; exact lift_0 l Z h0
  | succ n ih =>
    intro hn6
    have hL := ih (by omega)
    intro r σ br lm sz hr8 hbg hmr hnn hzz
    have eq : hp_end (hp_loop (hp_work (hp_lift M C h ta lo n) h ta lo) (C r) (M r) 0 (hp_wr 1 (hp_mrs (6 - n) σ))) = hp_lift M C h ta lo (n + 1) r σ := rfl
    have hacc : ∀ r σ, hp_bg σ ≤ 300 → hp_acc 3 1 (hp_lift M C h ta lo n r σ).1 σ (hp_lift M C h ta lo n r σ).2 := fun r σ hσ => hp_acc_lift n r σ hσ
    have hup := hp_loop_up (h := h) (ta := ta) (lo := lo) (C1 := C r) hacc (M r) 0 (hp_wr 1 (hp_mrs (6 - n) σ)) hbg
    have heu := hp_end_up (hp_loop (hp_work (hp_lift M C h ta lo n) h ta lo) (C r) (M r) 0 (hp_wr 1 (hp_mrs (6 - n) σ)))
    rw [eq] at heu
    generalize hp_lift M C h ta lo (n + 1) r σ = qF at eq heu hnn ⊢
    have hn1 : hp_n σ + 1 ≤ 2800 := by
      have h1 := hup.1
      have h2 := heu.1
      have e1 : hp_n (hp_wr 1 (hp_mrs (6 - n) σ)) = hp_n σ + 1 := rfl
      omega
    refine hr_methH (by decide) (Nat.le_of_ble_eq_true rfl) Z h0 ?_
    intro p e s m0 below meth c ls X hr hlk htab hadm hsz hC hl
    have hl : lv_has ls 8 [(0, _), (1, _)] := hl
    have hS := hr_S0 (s := s) (lo := b) (n := 20)
    have hreg := hr_reg (lo := b) (n := 20) (sz := s.heap.size)
    refine lv_aload_n X.ex X.by dX0_lift_0 rfl (lv_at hl 0 rfl) ?_
    refine hr_cget X hC 6 (by decide) rfl q73 dX0_lift_1 ?_
    refine lv_bipush (v := 6) X.ex X.by dX0_lift_4 (by decide) ?_
    refine lv_icmp_ne (tgt := 19) X.ex X.by dX0_lift_6 (by decide) (fun c_6 => ?_) (fun c_6 => absurd c_6 (fun z => absurd ((nI_eq (by omega) (by decide)).mp (show nI (6 - (n + 1)) = nI 6 from z)) (by omega)))
    refine lv_aload_n X.ex X.by dX0_lift_19 rfl (lv_at hl 0 rfl) ?_
    refine hr_cget X hC 0 (by decide) rfl q67 dX0_lift_20 ?_
    refine lv_iload_n X.ex X.by dX0_lift_23 rfl (lv_at hl 1 rfl) ?_
    refine hr_crk X hC rfl hr8 dX0_lift_24 ?_
    refine lv_astore_n X.ex X.by dX0_lift_25 rfl hl (by decide) rfl (fun ls hl => ?_)
    have hl : lv_has ls 8 [(2, _), (0, _), (1, _)] := hl
    refine lv_aload_n X.ex X.by dX0_lift_26 rfl (lv_at hl 1 rfl) ?_
    refine lv_dup X.ex X.by dX0_lift_27 rfl ?_
    refine hr_cget X hC 6 (by decide) rfl q73 dX0_lift_28 ?_
    refine lv_iconst (v := 1) X.ex X.by dX0_lift_31 (by decide) ?_
    refine lv_iadd X.ex X.by dX0_lift_32 ?_
    refine hr_cput X hC hS hreg 6 (by decide) (Nat.le_of_ble_eq_true rfl) rfl rfl q73 dX0_lift_33 (fun H locs hC hS _ => ?_)
    rw [hr_nu hn6] at hC
    refine lv_aload_n X.ex X.by dX0_lift_36 rfl (lv_at hl 1 rfl) ?_
    refine lv_dup X.ex X.by dX0_lift_37 rfl ?_
    refine hr_cget X hC 8 (by decide) rfl q75 dX0_lift_38 ?_
    refine lv_iconst (v := 1) X.ex X.by dX0_lift_41 (by decide) ?_
    refine lv_iadd X.ex X.by dX0_lift_42 ?_
    refine hr_cput X hC hS hreg 8 (by decide) (Nat.le_of_ble_eq_true rfl) rfl rfl q75 dX0_lift_43 (fun H locs hC hS _ => ?_)
    rw [hr_nu hn6] at hC
    refine lv_aload_n X.ex X.by dX0_lift_46 rfl (lv_at hl 1 rfl) ?_
    refine lv_aload_n X.ex X.by dX0_lift_47 rfl (lv_at hl 1 rfl) ?_
    refine hr_cget X hC 8 (by decide) rfl q75 dX0_lift_48 ?_
    refine lv_aload_n X.ex X.by dX0_lift_51 rfl (lv_at hl 1 rfl) ?_
    refine hr_cget X hC 7 (by decide) rfl q74 dX0_lift_52 ?_
    refine lv_icmp_le (tgt := 65) X.ex X.by dX0_lift_55 (by decide) (fun c_55 => ?_) (fun c_55 => ?_)
    · have cc : ¬ σ.2.2.1 < 6 - n := fun z => nI_ge z (by omega) c_55
      refine lv_aload_n X.ex X.by dX0_lift_65 rfl (lv_at hl 1 rfl) ?_
      refine hr_cget X hC 7 (by decide) rfl q74 dX0_lift_66 ?_
      refine hr_cput X hC hS hreg 7 (by decide) (Nat.le_of_ble_eq_true rfl) rfl rfl q74 dX0_lift_69 (fun H locs hC hS _ => ?_)
      refine lv_aload_n X.ex X.by dX0_lift_72 rfl (lv_at hl 1 rfl) ?_
      refine lv_iconst (v := 1) X.ex X.by dX0_lift_73 (by decide) ?_
      have hC : hr_cG D g b z M C h ta lo f (nI (6 - n)) (nI (6 - n)) br lm (hp_mrs (6 - n) σ) H := by unfold hr_cG hp_mrs; first | (rw [if_pos cc]; exact hC) | (rw [if_neg cc]; exact hC)
      refine c_X0_write X hC (show hp_n σ < 2800 by omega) hS hreg ⟨by show 1 ≤ 3 * (n + 1) + 10; omega, by show 40 ≤ 40 * (3 * (n + 1) + 10) + 10300; omega⟩ ⟨Nat.zero_le _, Nat.zero_le _⟩ hl.1 (Nat.le_of_ble_eq_true rfl) dX0_lift_74 (fun H locs hC hS hk => ?_)
      refine lv_iconst (v := 0) X.ex X.by dX0_lift_77 (by decide) ?_
      refine lv_istore_n X.ex X.by dX0_lift_78 rfl hl (by decide) rfl (fun ls hl => ?_)
      have hl : lv_has ls 8 [(3, _), (2, _), (0, _), (1, _)] := hl
      refine W.widen (k := 3 * (hp_ex (hp_wr 1 (hp_mrs (6 - n) σ)) - hp_ex σ)) (n := 44 * (hp_ex (hp_wr 1 (hp_mrs (6 - n) σ)) - hp_ex σ)) (Nat.zero_le _) (Nat.zero_le _) ?_
      exact lift_loop X hr hlk htab hn6 hnn hfl hM hok hL (by omega) h0 hr8 (M r) 0 (hp_wr 1 (hp_mrs (6 - n) σ)) H locs ls (Nat.zero_add _) eq hbg (by show (if σ.2.2.1 < 6 - n then 6 - n else σ.2.2.1) ≤ 6; split <;> omega) (Nat.le_refl _) hC hS (lv_sub hl [0, 1, 3, 2] rfl)
    · have cc : σ.2.2.1 < 6 - n := Nat.lt_of_not_le (fun z => c_55 (nI_le z (by omega)))
      refine lv_aload_n X.ex X.by dX0_lift_58 rfl (lv_at hl 1 rfl) ?_
      refine hr_cget X hC 8 (by decide) rfl q75 dX0_lift_59 ?_
      refine lv_goto (tgt := 69) X.ex X.by dX0_lift_62 (by decide) ?_
      refine hr_cput X hC hS hreg 7 (by decide) (Nat.le_of_ble_eq_true rfl) rfl rfl q74 dX0_lift_69 (fun H locs hC hS _ => ?_)
      refine lv_aload_n X.ex X.by dX0_lift_72 rfl (lv_at hl 1 rfl) ?_
      refine lv_iconst (v := 1) X.ex X.by dX0_lift_73 (by decide) ?_
      have hC : hr_cG D g b z M C h ta lo f (nI (6 - n)) (nI (6 - n)) br lm (hp_mrs (6 - n) σ) H := by unfold hr_cG hp_mrs; first | (rw [if_pos cc]; exact hC) | (rw [if_neg cc]; exact hC)
      refine c_X0_write X hC (show hp_n σ < 2800 by omega) hS hreg ⟨by show 1 ≤ 3 * (n + 1) + 10; omega, by show 40 ≤ 40 * (3 * (n + 1) + 10) + 10300; omega⟩ ⟨Nat.zero_le _, Nat.zero_le _⟩ hl.1 (Nat.le_of_ble_eq_true rfl) dX0_lift_74 (fun H locs hC hS hk => ?_)
      refine lv_iconst (v := 0) X.ex X.by dX0_lift_77 (by decide) ?_
      refine lv_istore_n X.ex X.by dX0_lift_78 rfl hl (by decide) rfl (fun ls hl => ?_)
      have hl : lv_has ls 8 [(3, _), (2, _), (0, _), (1, _)] := hl
      refine W.widen (k := 3 * (hp_ex (hp_wr 1 (hp_mrs (6 - n) σ)) - hp_ex σ)) (n := 44 * (hp_ex (hp_wr 1 (hp_mrs (6 - n) σ)) - hp_ex σ)) (Nat.zero_le _) (Nat.zero_le _) ?_
      exact lift_loop X hr hlk htab hn6 hnn hfl hM hok hL (by omega) h0 hr8 (M r) 0 (hp_wr 1 (hp_mrs (6 - n) σ)) H locs ls (Nat.zero_add _) eq hbg (by show (if σ.2.2.1 < 6 - n then 6 - n else σ.2.2.1) ≤ 6; split <;> omega) (Nat.le_refl _) hC hS (lv_sub hl [0, 1, 3, 2] rfl)
set_option maxHeartbeats 4000000 in
theorem behind_loop {p : Program} {l : Launch} {e : Env} {s : State} {m0 : MethodId} {args : Array Value} {below : List Frame} {meth : Method} {c : Code} {s0 : State} {D : va_G} {g : ClassId × ClassId × ClassId} {b z : Nat} (X : hr_X p s m0 args c cX0_behind 3 RX0 s0 D g (hr_A b 20 s.heap.size)) (hr : meth.sig.returnType = none) (hlk : meth.locks = false) {M : Nat → Nat} {C : Nat → Nat → Int32} {h : Nat → Int32} {ta lo : Int32} {li ro br lm : Int32} {σ : hp_S} {f1 f4 : Int32} {k t : Nat} (hk : k = 1 ∨ k = 2 ∨ k = 3 ∨ k = 4 ∨ k = 6) {a0 : Nat} :
    ∀ (rs : List Nat) (a c0 : Nat) (H : Heap) (locs : List Loc) (ls : Array Slot), c0 + rs.length = t → hr_E D s0 z k rs a H → hr_cG D g b z M C h ta lo (f1, nI c0, f1, f4) li ro br lm σ H → va_S (hr_A b 20 s.heap.size) s.heap H locs → lv_has ls 3 [(2, .ref a), (0, .ref b), (1, .ref a0)] → W p l e (hr_L 2 0 0) s m0 args below meth c H locs 0 0 (hr_Q below (hr_Qc b 20 (hr_Qv (fun H => hr_cG D g b z M C h ta lo (f1, nI t, nI k, f4) li ro br lm σ H))) args s 0 0 (hr_A b 20 s.heap.size)) (F0 m0 15 ls []) := by
  have hreg := hr_reg (lo := b) (n := 20) (sz := s.heap.size)
  intro rs
  induction rs with
  | nil =>
    intro a c0 H locs ls hct hE hC hS hl
    have hct : c0 = t := hct
    subst hct
    have hxc := hr_E.xc (x := (k, [])) X hE
    have hxc : hr_xc s (hr_xk k) a H := hxc
    refine lv_aload_n X.ex X.by dX0_behind_15 rfl (lv_at hl 0 rfl) ?_
    have hcv : ∃ v, hr_xo s0 (hr_xn (hr_xk k)) a (va_rf v) H ∧ hr_cv a v = none := by
      by_cases hn : hr_xk k = 0 ∨ hr_xk k = 2
      · have h9 := hE.2.1
        rw [if_pos hn] at h9
        exact ⟨none, h9, rfl⟩
      · have h9 := hE.2.1
        rw [if_neg hn] at h9
        exact ⟨some a, h9, by unfold hr_cv; rw [if_pos rfl]⟩
    obtain ⟨v, hO, hv⟩ := hcv
    refine hr_cause X (hr_xk_lt k) hO hS ⟨Nat.le_of_ble_eq_true rfl, Nat.le_of_ble_eq_true rfl⟩ ⟨Nat.zero_le _, Nat.zero_le _⟩ hl.1 (Nat.le_of_ble_eq_true rfl) dX0_behind_16 (fun locs hS => ?_)
    rw [hv]
    refine lv_ifnullN (tgt := 40) X.ex X.by dX0_behind_19 (by decide) ?_
    refine lv_aload_n X.ex X.by dX0_behind_40 rfl (lv_at hl 1 rfl) ?_
    refine lv_aload_n X.ex X.by dX0_behind_41 rfl (lv_at hl 0 rfl) ?_
    -- what is stored, and the end
    have fin : ∀ (w : Int32), w = nI k → W p l e (hr_L 2 0 0) s m0 args below meth c H locs 0 0 (hr_Q below (hr_Qc b 20 (hr_Qv (fun H => hr_cG D g b z M C h ta lo (f1, nI c0, nI k, f4) li ro br lm σ H))) args s 0 0 (hr_A b 20 s.heap.size)) (F0 m0 81 ls [.int w, .ref b]) := by
      intro w hw
      subst hw
      refine hr_cput X hC hS hreg 15 (by decide) (Nat.le_of_ble_eq_true rfl) rfl rfl q82 dX0_behind_81 (fun H locs hC hS _ => ?_)
      exact hr_vret X hr hlk hS ⟨rfl, hC⟩ (Nat.le_refl _) (Nat.le_refl _) dX0_behind_84
    by_cases k0 : hr_xk k = 0
    · rw [k0] at hxc
      refine va_instY X.ex X.by X.ow (X.ts _ q155) (X.cw 0) hxc dX0_behind_42 ?_
      refine lv_if_eq (tgt := 58) X.ex X.by dX0_behind_45 (by decide) (fun c => absurd c (by decide)) (fun _ => ?_)
      refine lv_aload_n X.ex X.by dX0_behind_48 rfl (lv_at hl 0 rfl) ?_
      refine va_castY X.ex X.by X.ow (X.ts _ q155) (X.cw 0) hxc dX0_behind_49 ?_
      obtain ⟨fs, g1, g2⟩ := hE.2.2 k0
      refine hr_getN X hr_i4 g1 6 (by decide) g2 q316 dX0_behind_52 ?_
      refine lv_goto (tgt := 81) X.ex X.by dX0_behind_55 (by decide) ?_
      exact fin _ rfl
    · have h6 := hr_xk_lt k
      refine va_instNo X.ex X.by X.ow (X.ts _ q155) (X.nc h6 (by decide : (0 : Nat) < 6) k0) hxc dX0_behind_42 ?_
      refine lv_if_eq (tgt := 58) X.ex X.by dX0_behind_45 (by decide) (fun _ => ?_) (fun c => absurd rfl c)
      refine lv_aload_n X.ex X.by dX0_behind_58 rfl (lv_at hl 0 rfl) ?_
      by_cases k3 : hr_xk k = 3
      · rw [k3] at hxc
        refine va_instY X.ex X.by X.ow (X.ts _ q158) (X.cw 3) hxc dX0_behind_59 ?_
        refine lv_if_eq (tgt := 69) X.ex X.by dX0_behind_62 (by decide) (fun c => absurd c (by decide)) (fun _ => ?_)
        refine lv_iconst (v := 2) X.ex X.by dX0_behind_65 (by decide) ?_
        refine lv_goto (tgt := 81) X.ex X.by dX0_behind_66 (by decide) ?_
        exact fin _ (by rcases hk with rfl | rfl | rfl | rfl | rfl <;> first | rfl | exact absurd k3 (by decide))
      · refine va_instNo X.ex X.by X.ow (X.ts _ q158) (X.nc h6 (by decide : (3 : Nat) < 6) k3) hxc dX0_behind_59 ?_
        refine lv_if_eq (tgt := 69) X.ex X.by dX0_behind_62 (by decide) (fun _ => ?_) (fun c => absurd rfl c)
        refine lv_aload_n X.ex X.by dX0_behind_69 rfl (lv_at hl 0 rfl) ?_
        by_cases k4 : hr_xk k = 4
        · rw [k4] at hxc
          refine va_instY X.ex X.by X.ow (X.ts _ q245) (X.cw 4) hxc dX0_behind_70 ?_
          refine lv_if_eq (tgt := 80) X.ex X.by dX0_behind_73 (by decide) (fun c => absurd c (by decide)) (fun _ => ?_)
          refine lv_iconst (v := 3) X.ex X.by dX0_behind_76 (by decide) ?_
          refine lv_goto (tgt := 81) X.ex X.by dX0_behind_77 (by decide) ?_
          exact fin _ (by rcases hk with rfl | rfl | rfl | rfl | rfl <;> first | rfl | exact absurd k4 (by decide))
        · refine va_instNo X.ex X.by X.ow (X.ts _ q245) (X.nc h6 (by decide : (4 : Nat) < 6) k4) hxc dX0_behind_70 ?_
          refine lv_if_eq (tgt := 80) X.ex X.by dX0_behind_73 (by decide) (fun _ => ?_) (fun c => absurd rfl c)
          refine lv_iconst (v := 4) X.ex X.by dX0_behind_80 (by decide) ?_
          exact fin _ (by rcases hk with rfl | rfl | rfl | rfl | rfl <;> first | rfl | exact absurd rfl k0 | exact absurd rfl k3 | exact absurd rfl k4)
  | cons r rs ih =>
    intro a c0 H locs ls hct hE hC hS hl
    have hbz : b + 20 ≤ z := hC.1
    obtain ⟨hz, a', hO, hne, -, hE'⟩ := hE
    have hO : hr_xo s0 (hr_xn 1) a (va_rf (some a')) H := hO
    have hcv : hr_cv a (some a') = some a' := by unfold hr_cv; rw [if_neg (fun z => hne (Option.some.inj z))]
    refine lv_aload_n X.ex X.by dX0_behind_15 rfl (lv_at hl 0 rfl) ?_
    refine hr_cause X (by decide : (1 : Nat) < 6) hO hS ⟨Nat.le_of_ble_eq_true rfl, Nat.le_of_ble_eq_true rfl⟩ ⟨Nat.zero_le _, Nat.zero_le _⟩ hl.1 (Nat.le_of_ble_eq_true rfl) dX0_behind_16 (fun locs hS => ?_)
    rw [hcv]
    refine lv_ifnull X.ex X.by dX0_behind_19 ?_
    refine lv_aload_n X.ex X.by dX0_behind_22 rfl (lv_at hl 0 rfl) ?_
    refine hr_cause X (by decide : (1 : Nat) < 6) hO hS ⟨Nat.le_of_ble_eq_true rfl, Nat.le_of_ble_eq_true rfl⟩ ⟨Nat.zero_le _, Nat.zero_le _⟩ hl.1 (Nat.le_of_ble_eq_true rfl) dX0_behind_23 (fun locs hS => ?_)
    rw [hcv]
    refine lv_astore_n X.ex X.by dX0_behind_26 rfl hl (by decide) rfl (fun ls hl => ?_)
    have hl : lv_has ls 3 [(2, _), (0, _), (1, _)] := hl
    refine lv_aload_n X.ex X.by dX0_behind_27 rfl (lv_at hl 1 rfl) ?_
    refine lv_dup X.ex X.by dX0_behind_28 rfl ?_
    refine hr_cget X hC 14 (by decide) rfl q81 dX0_behind_29 ?_
    refine lv_iconst (v := 1) X.ex X.by dX0_behind_32 (by decide) ?_
    refine lv_iadd X.ex X.by dX0_behind_33 ?_
    refine hr_cput X hC hS hreg 14 (by decide) (Nat.le_of_ble_eq_true rfl) rfl rfl q81 dX0_behind_34 (fun H locs hC hS hk => ?_)
    rw [nI_1] at hC
    refine lv_goto (tgt := 15) X.ex X.by dX0_behind_37 (by decide) ?_
    have hct : c0 + (rs.length + 1) = t := hct
    exact ih a' (c0 + 1) H locs ls (by omega) (hE'.kept (fun q hz hq => hk.2 q hq (by omega))) hC hS hl
set_option maxHeartbeats 4000000 in
theorem k_X0_behind (l : Launch) {s0 : State} {D : va_G} {g : ClassId × ClassId × ClassId} (Z : hr_Z s0 D g) {b z : Nat} (h0 : s0.heap.size ≤ b) {M : Nat → Nat} {C : Nat → Nat → Int32} {h : Nat → Int32} {ta lo : Int32} {f : Int32 × Int32 × Int32 × Int32} {li ro br lm : Int32} {σ : hp_S} {k r : Nat} {rs : List Nat} (hkk : k = 1 ∨ k = 2 ∨ k = 3 ∨ k = 4 ∨ k = 6) (hf : f.2.1 = nI 0) {a sz : Nat} : hr_C l yX0_behind (ws_ yX0_behind cX0_behind 3 none) (hr_L 2 0 0) s0 b 20 sz [.ref b, .ref a] (fun H => hr_cG D g b z M C h ta lo f li ro br lm σ H ∧ hr_E D s0 z k (r :: rs) a H) (hr_Qv (fun H => hr_cG D g b z M C h ta lo (5, nI (rs.length + 1), nI k, nI r) li ro br lm σ H)) 0 0 := by
  refine hr_meth (by decide) (Nat.le_of_ble_eq_true rfl) Z h0 ?_
  intro p e s m0 below meth c ls X hr hlk hnm htab hadm hsz hC hl
  have hl : lv_has ls 3 [(0, _), (1, _)] := hl
  have hS := hr_S0 (s := s) (lo := b) (n := 20)
  have hreg := hr_reg (lo := b) (n := 20) (sz := s.heap.size)
  obtain ⟨hC, hE⟩ := hC
  have hbz : b + 20 ≤ z := hC.1
  refine lv_aload_n X.ex X.by dX0_behind_0 rfl (lv_at hl 0 rfl) ?_
  refine lv_iconst (v := 5) X.ex X.by dX0_behind_1 (by decide) ?_
  refine c_X0_failed X hC hS hreg ⟨Nat.le_of_ble_eq_true rfl, Nat.le_of_ble_eq_true rfl⟩ ⟨Nat.zero_le _, Nat.zero_le _⟩ hl.1 (Nat.le_of_ble_eq_true rfl) dX0_behind_2 (fun H locs hC hS hk => ?_)
  have hE := hE.kept (H1 := H) (fun q hz hq => hk.2 q hq (by omega))
  obtain ⟨-, a', -, -, ⟨fs, g1, g2⟩, -⟩ := id hE
  refine lv_aload_n X.ex X.by dX0_behind_5 rfl (lv_at hl 0 rfl) ?_
  refine lv_aload_n X.ex X.by dX0_behind_6 rfl (lv_at hl 1 rfl) ?_
  refine hr_getN X hr_i5 g1 6 (by decide) g2 q370 dX0_behind_7 ?_
  refine hr_cput X hC hS hreg 16 (by decide) (Nat.le_of_ble_eq_true rfl) rfl rfl q83 dX0_behind_10 (fun H locs hC hS hk => ?_)
  have hE := hE.kept (H1 := H) (fun q hz hq => hk.2 q hq (by omega))
  refine lv_aload_n X.ex X.by dX0_behind_13 rfl (lv_at hl 1 rfl) ?_
  refine lv_astore_n X.ex X.by dX0_behind_14 rfl hl (by decide) rfl (fun ls hl => ?_)
  have hl : lv_has ls 3 [(2, _), (0, _), (1, _)] := hl
  have hf2 : f = (f.1, nI 0, f.2.2.1, f.2.2.2) := by rw [← hf]
  have hC : hr_cG D g b z M C h ta lo (5, nI 0, 5, nI r) li ro br lm σ H := by rw [hf2] at hC; exact hC
  exact behind_loop X hr hlk hkk (r :: rs) a 0 H locs ls (Nat.zero_add _) hE hC hS hl
end HRLG
end
section
/-! THE CLASS: run -/
section HRRN
set_option maxHeartbeats 4000000 in
theorem k_X0_run (l : Launch) (hfl : l.flags = flags0) {s0 : State} {D : va_G} {g : ClassId × ClassId × ClassId} (Z : hr_Z s0 D g) {b z : Nat} (h0 : s0.heap.size ≤ b) {K : hp_K} (hV : hp_KV K) (r w : Int32) {sz : Nat} (hzz : z ≤ sz) : hr_C l yX0_run (wsW_ yX0_run cX0_run 4 (some .int) hhR) (hr_R 29 1803 26444) s0 b 20 sz [.ref b, .int r, .int w] (fun H => hr_cK D g b z K H) (hr_Qi (fun v H => v = (ho_run K r w).1 ∧ hr_cK D g b z (ho_run K r w).2 H)) 1803 26444 := by
  refine hr_methH (by decide) (Nat.le_of_ble_eq_true rfl) Z h0 ?_
  intro p e s m0 below meth c ls X hr hlk htab hadm hsz hC hl
  have hl : lv_has ls 4 [(0, _), (1, _), (2, _)] := hl
  have hreg := hr_reg (lo := b) (n := 20) (sz := s.heap.size)
  have hS := hr_S0 (s := s) (lo := b) (n := 20)
  obtain ⟨M, C, h, ta, lo, f, σ⟩ := K
  obtain ⟨hM, hok, hn⟩ := hV
  have hM : ∀ r, r < 8 → M r ≤ 12 := hM
  have hok : ∀ r k, r < 8 → k < M r → hp_ok (C r k) := hok
  have hC : hr_cw D g b z (hr_cf b ta lo σ.1 (nI σ.2.1) 0 (nI σ.2.2.1) 0 0 0 (nI σ.2.2.2.2.length) f.1 f.2.1 f.2.2.1 f.2.2.2) M C h σ.2.2.2.2 s.heap := hC
  refine lv_iload_n X.ex X.by dX0_run_0 rfl (lv_at hl 1 rfl) ?_
  refine c_X0_isRack X hS ⟨Nat.le_of_ble_eq_true rfl, Nat.le_of_ble_eq_true rfl⟩ ⟨Nat.zero_le _, Nat.zero_le _⟩ hl.1 (Nat.le_of_ble_eq_true rfl) dX0_run_1 (fun locs hS => ?_)
  refine lv_if_ne (tgt := 10) X.ex X.by dX0_run_4 (by decide) (fun c_4 => ?_) (fun c_4 => ?_)
  · obtain ⟨j, ej, hj8, ei⟩ : ∃ j, r.toNatClampNeg = j ∧ j < 8 ∧ r = nI j := ⟨_, rfl, (hp_rk_lt (hr_if1 c_4)).1, (hp_rk_lt (hr_if1 c_4)).2⟩
    subst ei
    refine lv_aload_n X.ex X.by dX0_run_10 rfl (lv_at hl 0 rfl) ?_
    refine lv_iload_n X.ex X.by dX0_run_11 rfl (lv_at hl 2 rfl) ?_
    refine hr_cput X hC hS hreg 3 (by decide) (Nat.le_of_ble_eq_true rfl) rfl rfl q70 dX0_run_12 (fun H locs hC hS _ => ?_)
    refine lv_aload_n X.ex X.by dX0_run_15 rfl (lv_at hl 0 rfl) ?_
    refine lv_iconst (v := 0) X.ex X.by dX0_run_16 (by decide) ?_
    refine hr_cput X hC hS hreg 4 (by decide) (Nat.le_of_ble_eq_true rfl) rfl rfl q71 dX0_run_17 (fun H locs hC hS _ => ?_)
    refine lv_aload_n X.ex X.by dX0_run_20 rfl (lv_at hl 0 rfl) ?_
    refine lv_iconst (v := 0) X.ex X.by dX0_run_21 (by decide) ?_
    refine hr_cput X hC hS hreg 5 (by decide) (Nat.le_of_ble_eq_true rfl) rfl rfl q72 dX0_run_22 (fun H locs hC hS _ => ?_)
    refine lv_aload_n X.ex X.by dX0_run_25 rfl (lv_at hl 0 rfl) ?_
    refine lv_iconst (v := 0) X.ex X.by dX0_run_26 (by decide) ?_
    refine hr_cput X hC hS hreg 7 (by decide) (Nat.le_of_ble_eq_true rfl) rfl rfl q74 dX0_run_27 (fun H locs hC hS _ => ?_)
    refine lv_aload_n X.ex X.by dX0_run_30 rfl (lv_at hl 0 rfl) ?_
    refine lv_iconst (v := 0) X.ex X.by dX0_run_31 (by decide) ?_
    refine hr_cput X hC hS hreg 11 (by decide) (Nat.le_of_ble_eq_true rfl) rfl rfl q78 dX0_run_32 (fun H locs hC hS _ => ?_)
    refine lv_aload_n X.ex X.by dX0_run_35 rfl (lv_at hl 0 rfl) ?_
    refine lv_iconst (v := 0) X.ex X.by dX0_run_36 (by decide) ?_
    have hC : hr_cG D g b z M C h ta w f 0 0 0 0 (0, 0, 0, 0, []) H := hC.clr
    refine c_X0_failed X hC hS hreg ⟨Nat.le_of_ble_eq_true rfl, Nat.le_of_ble_eq_true rfl⟩ ⟨Nat.zero_le _, Nat.zero_le _⟩ hl.1 (Nat.le_of_ble_eq_true rfl) dX0_run_37 (fun H locs hC hS hk => ?_)
    refine lv_aload_n X.ex X.by dX0_run_40 rfl (lv_at hl 0 rfl) ?_
    refine lv_iconst (v := 0) X.ex X.by dX0_run_41 (by decide) ?_
    refine hr_cput X hC hS hreg 14 (by decide) (Nat.le_of_ble_eq_true rfl) rfl rfl q81 dX0_run_42 (fun H locs hC hS _ => ?_)
    refine lv_aload_n X.ex X.by dX0_run_45 rfl (lv_at hl 0 rfl) ?_
    refine lv_iconst (v := (-1)) X.ex X.by dX0_run_46 (by decide) ?_
    refine hr_cput X hC hS hreg 16 (by decide) (Nat.le_of_ble_eq_true rfl) rfl rfl q83 dX0_run_47 (fun H locs hC hS _ => ?_)
    refine lv_aload_n X.ex X.by dX0_run_50 rfl (lv_at hl 0 rfl) ?_
    refine lv_iload_n X.ex X.by dX0_run_51 rfl (lv_at hl 1 rfl) ?_
    have hC : hr_cG D g b z M C h ta w (0, 0, 0, -1) (nI (6 - 6)) (nI (6 - 6)) 0 0 (0, 0, 0, 0, []) H := hC
    obtain ⟨q, hq⟩ : ∃ q, q = hp_lift M C h ta w 6 j (0, 0, 0, 0, []) := ⟨_, rfl⟩
    have eK : ho_run (M, C, h, ta, lo, f, σ) (nI j) w = ((if q.1 = none then 1 else 0), M, C, h, ta, w, hp_fo q.1, q.2) := by rw [hq]; unfold ho_run; dsimp only; rw [if_neg (fun z => z (hr_if1 c_4)), ej]; rfl
    have hle : hp_n q.2 ≤ 2707 ∧ hp_ex q.2 ≤ 601 ∧ hp_bg q.2 ≤ 300 := by rw [hq]; exact hp_whole j (0, 0, 0, 0, []) rfl rfl rfl
    have hqw : hp_qw q := by rw [hq]; exact hp_lift_qw 6 j (0, 0, 0, 0, []) (by decide) (by decide)
    have hcon := lift_all l hfl X.2.1 h0 (z := z) (f := (0, 0, 0, -1)) (ta := ta) (lo := w) (h := h) hM hok 6 (Nat.le_refl _) j (0, 0, 0, 0, []) 0 0 H.size hj8 (by decide) (by decide) (by rw [← hq]; omega) (by have := hS.1; omega)
    rw [← hq] at hcon
    rw [eK]
    have hx0 : hp_ex (0, 0, 0, 0, []) = 0 := rfl
    refine hr_callO (As := [.int (nI j)]) X hcon v_X0_lift hg_L hS hreg (hr_cG.recv X hC) hC rfl rfl (hr_lR2 (by decide) ⟨Nat.le_of_ble_eq_true rfl, Nat.le_of_ble_eq_true rfl⟩) hl.1 rfl (Nat.le_of_ble_eq_true rfl) ⟨by show 0 + 3 * (hp_ex q.2 - hp_ex (0, 0, 0, 0, [])) ≤ 1803; omega, by show 0 + 44 * (hp_ex q.2 - hp_ex (0, 0, 0, 0, [])) ≤ 26444; omega⟩ dX0_run_52 (fun hqn H locs hC hS hkp => ?_) (fun x a hqn H locs hE hC hS hkp => ?_)
    · rw [hqn]
      refine lv_goto (tgt := 113) X.ex X.by dX0_run_55 (by decide) ?_
      refine lv_aload_n X.ex X.by dX0_run_113 rfl (lv_at hl 0 rfl) ?_
      refine hr_cget X hC 13 (by decide) rfl q80 dX0_run_114 ?_
      refine lv_if_ne (tgt := 124) X.ex X.by dX0_run_117 (by decide) (fun c_117 => absurd c_117 (fun z => z rfl)) (fun c_117 => ?_)
      refine lv_iconst (v := 1) X.ex X.by dX0_run_120 (by decide) ?_
      refine lv_goto (tgt := 125) X.ex X.by dX0_run_121 (by decide) ?_
      exact hr_iret X hr hlk hS ⟨_, rfl, rfl, hC⟩ (by show 0 + 3 * (hp_ex q.2 - hp_ex (0, 0, 0, 0, [])) ≤ 1803; omega) (by show 0 + 44 * (hp_ex q.2 - hp_ex (0, 0, 0, 0, [])) ≤ 26444; omega) dX0_run_125
    · have hbz : b + 20 ≤ z := hC.1
      have hxc := hE.xc X
      have hxw := hqw.1 x hqn
      rw [hqn]
      have hpos : 1 ≤ hp_code x ∧ hp_code x ≤ 7 := by
        unfold hp_code
        split
        · unfold hp_xw at hxw
          omega
        · omega
      have fin : ∀ (H : Heap) (locs : List Loc) (ls : Array Slot), hr_cG D g b z M C h ta w (hp_f x) 0 0 0 0 q.2 H → va_S (hr_A b 20 s.heap.size) s.heap H locs → lv_has ls 4 [(0, .ref b)] → W p l e (hr_R 29 1803 26444) s m0 [.ref b, .int (nI j), .int w].toArray below meth c H locs (0 + 3 * (hp_ex q.2 - hp_ex (0, 0, 0, 0, []))) (0 + 44 * (hp_ex q.2 - hp_ex (0, 0, 0, 0, []))) (hr_Q below (hr_Qc b 20 (hr_Qi (fun v H => v = (if (some x) = none then 1 else 0) ∧ hr_cK D g b z (M, C, h, ta, w, hp_fo (some x), q.2) H))) [.ref b, .int (nI j), .int w].toArray s 1803 26444 (hr_A b 20 s.heap.size)) (F0 m0 113 ls []) := by
        intro H locs ls hC hS hl
        refine lv_aload_n X.ex X.by dX0_run_113 rfl (lv_at hl 0 rfl) ?_
        refine hr_cget X hC 13 (by decide) rfl q80 dX0_run_114 ?_
        refine lv_if_ne (tgt := 124) X.ex X.by dX0_run_117 (by decide) (fun c_117 => ?_) (fun c_117 => absurd c_117 (nI_ne0 (by omega) (by omega)))
        refine lv_iconst (v := 0) X.ex X.by dX0_run_124 (by decide) ?_
        exact hr_iret X hr hlk hS ⟨_, rfl, rfl, hC⟩ (by show 0 + 3 * (hp_ex q.2 - hp_ex (0, 0, 0, 0, [])) ≤ 1803; omega) (by show 0 + 44 * (hp_ex q.2 - hp_ex (0, 0, 0, 0, [])) ≤ 26444; omega) dX0_run_125
      have hCF : 0 + 3 * (hp_ex q.2 - hp_ex (0, 0, 0, 0, [])) ≤ 1803 ∧ 0 + 44 * (hp_ex q.2 - hp_ex (0, 0, 0, 0, [])) ≤ 26444 := ⟨by omega, by omega⟩
      have hCR : 0 + 3 * (hp_ex q.2 - hp_ex (0, 0, 0, 0, [])) ≤ (hr_R 29 1803 26444).cells ∧ 0 + 44 * (hp_ex q.2 - hp_ex (0, 0, 0, 0, [])) ≤ (hr_R 29 1803 26444).slots := hCF
      rcases hp_xw_cases hxw with ⟨h7, hnil, ez⟩ | ⟨h7, hcl⟩
      · rw [ez] at hxc
        refine hr_catch X htab hr_rwR (k := 2) (by decide) hxc (hpc := 79) (by decide) ?_
        refine lv_astore_n X.ex X.by dX0_run_79 rfl hl (by decide) rfl (fun ls hl => ?_)
        have hl : lv_has ls 4 [(3, _), (0, _), (1, _), (2, _)] := hl
        refine lv_aload_n X.ex X.by dX0_run_80 rfl (lv_at hl 1 rfl) ?_
        refine lv_bipush (v := 7) X.ex X.by dX0_run_81 (by decide) ?_
        refine c_X0_failed X hC hS hreg ⟨Nat.le_of_ble_eq_true rfl, Nat.le_of_ble_eq_true rfl⟩ hCR hl.1 (Nat.le_of_ble_eq_true rfl) dX0_run_83 (fun H locs hC hS hk => ?_)
        have ef : hp_f x = (7, 0, 7, -1) := by
          obtain ⟨k9, rs9⟩ := x
          have hnil : rs9 = [] := hnil
          have hk9 : k9 = 7 := h7
          subst hnil
          subst hk9
          rfl
        refine lv_goto (tgt := 113) X.ex X.by dX0_run_86 (by decide) ?_
        exact fin H locs ls (by rw [ef]; exact hC) hS (lv_sub hl [1] rfl)
      · rcases hcl with ⟨ez, hnil, hk⟩ | ⟨ez, hnn9⟩ | ⟨ez, hnil, hk⟩ | ⟨ez, hnil, hk⟩ | ⟨ez, hnil, hk⟩
        · have hE0 := hE
          rw [hnil] at hE0
          obtain ⟨fs, f1, f2⟩ := hE0.2.2 (by rcases hk with hk | hk <;> (rw [hk]; rfl))
          rw [ez] at hxc
          refine hr_catch X htab hr_rwR (k := 0) (by decide) hxc (hpc := 58) (by decide) ?_
          refine lv_astore_n X.ex X.by dX0_run_58 rfl hl (by decide) rfl (fun ls hl => ?_)
          have hl : lv_has ls 4 [(3, _), (0, _), (1, _), (2, _)] := hl
          refine lv_aload_n X.ex X.by dX0_run_59 rfl (lv_at hl 1 rfl) ?_
          refine lv_aload_n X.ex X.by dX0_run_60 rfl (lv_at hl 0 rfl) ?_
          refine hr_getN X hr_i4 f1 6 (by decide) f2 q316 dX0_run_61 ?_
          refine c_X0_failed X hC hS hreg ⟨Nat.le_of_ble_eq_true rfl, Nat.le_of_ble_eq_true rfl⟩ hCR hl.1 (Nat.le_of_ble_eq_true rfl) dX0_run_64 (fun H locs hC hS hk => ?_)
          have ef : hp_f x = (nI x.1, 0, nI x.1, -1) := by
            obtain ⟨k9, rs9⟩ := x
            have hnil : rs9 = [] := hnil
            subst hnil
            rfl
          refine lv_goto (tgt := 113) X.ex X.by dX0_run_67 (by decide) ?_
          exact fin H locs ls (by rw [ef]; exact hC) hS (lv_sub hl [1] rfl)
        · rw [ez] at hxc
          obtain ⟨k9, rs9⟩ := x
          cases rs9 with
          | nil => exact absurd rfl hnn9
          | cons r9 rs9 =>
            refine hr_catch X htab hr_rwR (k := 1) (by decide) hxc (hpc := 70) (by decide) ?_
            refine lv_astore_n X.ex X.by dX0_run_70 rfl hl (by decide) rfl (fun ls hl => ?_)
            have hl : lv_has ls 4 [(3, _), (0, _), (1, _), (2, _)] := hl
            refine lv_aload_n X.ex X.by dX0_run_71 rfl (lv_at hl 1 rfl) ?_
            refine lv_aload_n X.ex X.by dX0_run_72 rfl (lv_at hl 0 rfl) ?_
            have hk9 : k9 = 1 ∨ k9 = 2 ∨ k9 = 3 ∨ k9 = 4 ∨ k9 = 6 := by
              have h7 : ¬ k9 = 7 := h7
              rcases hxw with h | h | h | h | h | h
              · exact Or.inl h
              · exact Or.inr (Or.inl h)
              · exact Or.inr (Or.inr (Or.inl h))
              · exact Or.inr (Or.inr (Or.inr (Or.inl h)))
              · exact Or.inr (Or.inr (Or.inr (Or.inr h)))
              · exact absurd h.1 h7
            refine hr_callVv (As := [.ref a]) (mc := 0) (ms := 0) X (k_X0_behind l X.2.1 h0 (f := (0, 0, 0, -1)) hk9 rfl) v_X0_behind (lw_meth q378) hS hreg (hr_cG.recv X hC) ⟨hC, hE⟩ rfl rfl (hr_lR (by decide) ⟨Nat.le_of_ble_eq_true rfl, Nat.le_of_ble_eq_true rfl⟩) hl.1 rfl (Nat.le_of_ble_eq_true rfl) hCR dX0_run_73 (fun H locs hC hS hk => ?_)
            refine lv_goto (tgt := 113) X.ex X.by dX0_run_76 (by decide) ?_
            exact fin H locs ls hC hS (lv_sub hl [1] rfl)
        · rw [ez] at hxc
          refine hr_catch X htab hr_rwR (k := 3) (by decide) hxc (hpc := 89) (by decide) ?_
          refine lv_astore_n X.ex X.by dX0_run_89 rfl hl (by decide) rfl (fun ls hl => ?_)
          have hl : lv_has ls 4 [(3, _), (0, _), (1, _), (2, _)] := hl
          refine lv_aload_n X.ex X.by dX0_run_90 rfl (lv_at hl 1 rfl) ?_
          refine lv_iconst (v := 2) X.ex X.by dX0_run_91 (by decide) ?_
          refine c_X0_failed X hC hS hreg ⟨Nat.le_of_ble_eq_true rfl, Nat.le_of_ble_eq_true rfl⟩ hCR hl.1 (Nat.le_of_ble_eq_true rfl) dX0_run_92 (fun H locs hC hS hk => ?_)
          have ef : hp_f x = (2, 0, 2, -1) := by
            obtain ⟨k9, rs9⟩ := x
            have hnil : rs9 = [] := hnil
            have hk9 : k9 = 2 := hk
            subst hnil
            subst hk9
            rfl
          refine lv_goto (tgt := 113) X.ex X.by dX0_run_95 (by decide) ?_
          exact fin H locs ls (by rw [ef]; exact hC) hS (lv_sub hl [1] rfl)
        · rw [ez] at hxc
          refine hr_catch X htab hr_rwR (k := 4) (by decide) hxc (hpc := 98) (by decide) ?_
          refine lv_astore_n X.ex X.by dX0_run_98 rfl hl (by decide) rfl (fun ls hl => ?_)
          have hl : lv_has ls 4 [(3, _), (0, _), (1, _), (2, _)] := hl
          refine lv_aload_n X.ex X.by dX0_run_99 rfl (lv_at hl 1 rfl) ?_
          refine lv_iconst (v := 3) X.ex X.by dX0_run_100 (by decide) ?_
          refine c_X0_failed X hC hS hreg ⟨Nat.le_of_ble_eq_true rfl, Nat.le_of_ble_eq_true rfl⟩ hCR hl.1 (Nat.le_of_ble_eq_true rfl) dX0_run_101 (fun H locs hC hS hk => ?_)
          have ef : hp_f x = (3, 0, 3, -1) := by
            obtain ⟨k9, rs9⟩ := x
            have hnil : rs9 = [] := hnil
            have hk9 : k9 = 3 := hk
            subst hnil
            subst hk9
            rfl
          refine lv_goto (tgt := 113) X.ex X.by dX0_run_104 (by decide) ?_
          exact fin H locs ls (by rw [ef]; exact hC) hS (lv_sub hl [1] rfl)
        · rw [ez] at hxc
          refine hr_catch X htab hr_rwR (k := 5) (by decide) hxc (hpc := 107) (by decide) ?_
          refine lv_astore_n X.ex X.by dX0_run_107 rfl hl (by decide) rfl (fun ls hl => ?_)
          have hl : lv_has ls 4 [(3, _), (0, _), (1, _), (2, _)] := hl
          refine lv_aload_n X.ex X.by dX0_run_108 rfl (lv_at hl 1 rfl) ?_
          refine lv_iconst (v := 4) X.ex X.by dX0_run_109 (by decide) ?_
          refine c_X0_failed X hC hS hreg ⟨Nat.le_of_ble_eq_true rfl, Nat.le_of_ble_eq_true rfl⟩ hCR hl.1 (Nat.le_of_ble_eq_true rfl) dX0_run_110 (fun H locs hC hS hk => ?_)
          have ef : hp_f x = (4, 0, 4, -1) := by
            obtain ⟨k9, rs9⟩ := x
            have hnil : rs9 = [] := hnil
            have hk9 : k9 = 4 := hk
            subst hnil
            subst hk9
            rfl
          exact fin H locs ls (by rw [ef]; exact hC) hS (lv_sub hl [1] rfl)
  · refine lv_bipush (v := (-101)) X.ex X.by dX0_run_7 (by decide) ?_
    have eK : ho_run (M, C, h, ta, lo, f, σ) r w = (-101, (M, C, h, ta, lo, f, σ)) := if_pos (hr_if0 c_4)
    exact hr_iret X hr hlk hS ⟨_, rfl, by rw [eK], by rw [eK]; exact hC⟩ (Nat.zero_le _) (Nat.zero_le _) dX0_run_9
end HRRN
end
section
/-! THE LAW -/
section HRLW
def R_law : String := "HoistRacksLaw"
theorem hr_cK.kept {D : va_G} {g : ClassId × ClassId × ClassId} {b z : Nat} {K : hp_K} {H H1 : Heap} (hC : hr_cK D g b z K H) (hk : ∀ q : Nat, q < H.size → (b ≤ q ∧ q < b + 20) ∨ z ≤ q → H1[q]? = H[q]?) : hr_cK D g b z K H1 := hr_cw.kept hC hk
theorem hr_tK.kept {D : va_G} {g : ClassId × ClassId × ClassId} {m : Nat} {K : hp_K} {H H1 : Heap} (hT : hr_tK D g m K H) (hk : ∀ q : Nat, q < H.size → m ≤ q → q < m + 7 → H1[q]? = H[q]?) : hr_tK D g m K H1 := by
  obtain ⟨rk, at', h1, h2⟩ := hT
  exact ⟨rk, at', h1, h2.kept hk⟩
theorem hp_tab9 {w : Int32} (h0 : ¬ w = 0) (h1 : ¬ w = 1) (h2 : ¬ w = 2) (h3 : ¬ w = 3) (h4 : ¬ w = 4) (h5 : ¬ w = 5) (h6 : ¬ w = 6) (h7 : ¬ w = 7) (h8 : ¬ w = 8) : w.toInt < 0 ∨ 8 < w.toInt := by
  have h := hp_tab8 h0 h1 h2 h3 h4 h5 h6 h7
  rw [hp_eq] at h8
  have e8 : (8 : Int32).toInt = 8 := by decide
  omega
theorem law_cmp {L t : Nat} (hL : L ≤ 192) (ht : 3 * t ≤ 192) : nI L - 3 < nI (3 * t) ↔ L < 3 * t + 3 := by
  have e3 : (3 : Int32).toInt = 3 := by decide
  have eL := nI_toInt (n := L) (by omega)
  have eT := nI_toInt (n := 3 * t) (by omega)
  rw [hp_lt, eT, hp_sub_int (by omega) (by omega), eL, e3]
  omega
def lw_Q (_ : Array Value) (s : State) (o : Outcome) (t : State) : Prop := o = .returned (some (.int 1)) ∧ Framed s o t [] 1203072 5423402
def lw_Z (below : List Frame) (a : Array Value) (s : State) : State → Prop := fun t => ∃ o, t.status = .running ∧ Ended t below o ∧ lw_Q a s o t
/-- the law's own end, with 1 on the stack, nothing written that was there before, its room as the claim has it -/
theorem lw_ret {p : Program} {l : Launch} {e : Env} {s : State} {m : MethodId} {below : List Frame} {meth : Method} {c : Code} {b : Nat} (hx : p.tables.exec = Jvm.exec) (hb : c.code = code) (hr : meth.sig.returnType = ret) (hlocks : meth.locks = false) {pc : Nat} {H : Heap} {ls : Array Slot} (hdg : decode code pc = .ok (.ireturn, 1)) : W p l e room_1 s m #[Value.ref b] below meth c H [] 1203072 5423402 (lw_Z below #[Value.ref b] s) (F0 m pc ls [.int 1]) := by
  intro T hT X
  obtain ⟨fs, hret, hrun, hended, hW, hframe⟩ := X.leave (v := some (.int 1)) (hlocks := hlocks) (fun h => by rw [hr] at h; cases h)
  have hmeth' : T.vm.method? m = some meth := X.method'
  refine ⟨T.setFrames fs, ?_, .returned (some (.int 1)), hrun, hended, rfl, ⟨_, rfl⟩, hW, hframe⟩
  jvm_step X.here [X.here.top, hx, hb, hdg, hmeth', hr, ret, narrow_b1]
  (try refine ⟨rfl, ?_⟩); (try refine ⟨rfl, ?_⟩)
  first | (intro acts; rw [hret _ acts rfl rfl rfl]) | rw [hret _ _ rfl rfl rfl]
  exact Steps.refl _
/-- what holds at the law's entry -/
def lw_At (p : Program) (s : State) (m : MethodId) (meth : Method) (c : Code) (b L : Nat) (xs : Nat → Int32) : Prop :=
  p.tables.exec = Jvm.exec ∧ c.code = code ∧ meth.sig.returnType = ret ∧ c.maxLocals = 4 ∧ s.vm.findClass R_law = some m.cls ∧ (∀ w ∈ lw_tbl, w.before #[Value.ref b] s = true) ∧ va_X b L xs s s.heap ∧ b < s.heap.size ∧ meth.locks = false ∧ (Jvm.Cond.and given_1 narrow_1).before #[Value.ref b] s = true
/-- the classes' numbers, at the law's start -/
theorem law_known {s : State} {b : Nat} (hts : ∀ w ∈ lw_tbl, w.before #[Value.ref b] s = true) (hgv : (Jvm.Cond.and given_1 narrow_1).before #[Value.ref b] s = true) : ∃ (D : va_G) (g : ClassId × ClassId × ClassId), hr_Z s D g := by
  obtain ⟨c0, iS0, hKn0⟩ := u_known (C := RX0) (T := TX0) (N := 17) (n := 17) hts (fun w h => lw_all_tbl (in_X0 w h)) (hts _ (lw_all_tbl q42))
  obtain ⟨c1, iS1, hKn1⟩ := u_known (C := RX1) (T := TX1) (N := 2) (n := 2) hts (fun w h => lw_all_tbl (in_X1 w h)) (hts _ (lw_all_tbl q53))
  obtain ⟨c2, iS2, hKn2⟩ := u_known (C := RX3) (T := TX3) (N := 1) (n := 1) hts (fun w h => lw_all_tbl (in_X3 w h)) (hts _ (lw_all_tbl q141))
  obtain ⟨c3, iS3, hKn3⟩ := u_known (C := RX2) (T := TX2) (N := 17) (n := 17) hts (fun w h => lw_all_tbl (in_X2 w h)) (hts _ (lw_all_tbl q406))
  obtain ⟨c4, iS4, hKn4⟩ := u_known (C := RX4) (T := TX4) (N := 7) (n := 7) hts (fun w h => lw_all_tbl (in_X4 w h)) (hts _ (lw_all_tbl q297))
  obtain ⟨c5, iS5, hKn5⟩ := u_known (C := RX6) (T := TX6) (N := 7) (n := 7) hts (fun w h => lw_all_tbl (in_X6 w h)) (hts _ (lw_all_tbl q356))
  obtain ⟨c6, iS6, hKn6⟩ := u_known (C := RX5) (T := TX5) (N := 6) (n := 6) hts (fun w h => lw_all_tbl (in_X5 w h)) (hts _ (lw_all_tbl q329))
  obtain ⟨a0, k0, comp0, f1, f2, f3⟩ := Cond.arrayClass_spec (hts _ (lw_all_tbl q66))
  obtain ⟨comp1, a1, k1, g1, -, g2, g3, g4⟩ := Cond.arrayOver_spec (hts _ q50)
  obtain ⟨comp2, a2, k2, j1, -, j2, j3, j4⟩ := Cond.arrayOver_spec (hts _ q52)
  refine ⟨(fun k => match k with | 0 => c0 | 1 => c1 | 2 => c2 | 3 => c3 | 4 => c4 | 5 => c5 | _ => c6, fun k => match k with | 0 => iS0 | 1 => iS1 | 2 => iS2 | 3 => iS3 | 4 => iS4 | 5 => iS5 | _ => iS6), (a0, a1, a2), b, hts, hgv, ?_, ?_⟩
  · intro k q hq
    match k, hq with
    | 0, hq => cases hq; exact hKn0
    | 1, hq => cases hq; exact hKn1
    | 2, hq => cases hq; exact hKn2
    | 3, hq => cases hq; exact hKn3
    | 4, hq => cases hq; exact hKn4
    | 5, hq => cases hq; exact hKn5
    | 6, hq => cases hq; exact hKn6
    | k + 7, hq => simp [hr_cl] at hq
  · intro k q hq
    match k, hq with
    | 0, hq => cases hq; exact ⟨fun n z => ⟨fun k h => (by cases h), k0, f2, comp0, f3⟩, f1⟩
    | 1, hq => cases hq; exact ⟨fun n z => ⟨fun k h => (by cases h), k1, g2, comp1, g3⟩, k1, comp1, g2, g3, g1, g4⟩
    | 2, hq => cases hq; exact ⟨fun n z => ⟨fun k h => (by cases h), k2, j2, comp2, j3⟩, k2, comp2, j2, j3, j1, j4⟩
    | k + 3, hq => simp [hr_ty] at hq
set_option maxHeartbeats 8000000 in
theorem law_loop {p : Program} {e : Env} {s : State} {m : MethodId} {below : List Frame} {meth : Method} {c : Code} (l : Launch) (hfl : l.flags = flags0) {b0 L : Nat} {xs : Nat → Int32} (hL : L ≤ 192) (C0 : lw_At p s m meth c b0 L xs) {D : va_G} {g : ClassId × ClassId × ClassId} (X : hr_X p s m #[Value.ref b0] c code 4 R_law s D g (fun q => s.heap.size ≤ q)) {b : Nat} (hb0 : s.heap.size ≤ b) :
    ∀ (n t : Nat) (K : hp_K) (H : Heap) (locs : List Loc) (ls : Array Slot), t + n = 65 → 3 * t ≤ L → hp_KV K → hr_cK D g b (b + 27) K H → hr_tK D g (b + 20) K H → b + 27 ≤ H.size → va_S (fun q => s.heap.size ≤ q) s.heap H locs → lv_has ls 4 [(3, .int (nI (3 * t))), (2, .ref (b + 20)), (1, .ref b), (0, .ref b0)] → W p l e room_1 s m #[Value.ref b0] below meth c H locs (27 + 1803 * t) (9078 + 26444 * t) (lw_Z below #[Value.ref b0] s) (F0 m 18 ls []) := by
  obtain ⟨hx, hb, hr, hml, hown, hts, hXs, hbl, hlocks, hgv⟩ := C0
  have hbA : ¬ (fun q : Nat => s.heap.size ≤ q) b0 := Nat.not_le.mpr hbl
  have hregC : ∀ q : Nat, b ≤ q → q < b + 20 → (fun q : Nat => s.heap.size ≤ q) q := fun q h1 _ => Nat.le_trans hb0 h1
  have hregT : ∀ q : Nat, b + 20 ≤ q → q < b + 20 + 7 → (fun q : Nat => s.heap.size ≤ q) q := fun q h1 _ => by show s.heap.size ≤ q; omega
  intro n
  induction n with
  | zero =>
    intro t K H locs ls hn ht
    exact absurd ht (by omega)
  | succ n ih =>
    intro t K H locs ls hn ht hV hC hT hz hS hl
    have ht64 : t ≤ 64 := by omega
    refine lv_iload_n X.ex X.by dL_law_18 rfl (lv_at hl 0 rfl) ?_
    refine lv_aload_n X.ex X.by dL_law_19 rfl (lv_at hl 3 rfl) ?_
    refine va_slen X.ex X.by hXs hbl hbA hS dL_law_20 ?_
    refine lv_iconst (v := 3) X.ex X.by dL_law_21 (by decide) ?_
    refine lv_isub X.ex X.by dL_law_22 ?_
    refine lv_icmp_gt (tgt := 327) X.ex X.by dL_law_23 (by decide) (fun c_23 => ?_) (fun c_23 => ?_)
    · refine lv_iconst (v := 1) X.ex X.by dL_law_327 (by decide) ?_
      refine W.widen (k := 1203072) (n := 5423402) (by omega) (by omega) ?_
      refine va_forget hS.2.2 ?_
      exact lw_ret hx hb hr hlocks dL_law_328
    · have hlt : 3 * t + 3 ≤ L := Nat.le_of_not_lt (fun z => c_23 ((law_cmp hL (by omega)).mpr z))
      have e1 : nI (3 * t) + 1 = nI (3 * t + 1) := nI_1 _
      have e2 : nI (3 * t) + 2 = nI (3 * t + 2) := nI_add _ 2
      have v0 : vp_in (nI (3 * t)) L := vp_in_nI (by omega) (by omega)
      have v1 : vp_in (nI (3 * t) + 1) L := by rw [e1]; exact vp_in_nI (by omega) (by omega)
      have v2 : vp_in (nI (3 * t) + 2) L := by rw [e2]; exact vp_in_nI (by omega) (by omega)
      -- the next round
      have next : ∀ (K : hp_K) (H : Heap) (locs : List Loc) (ls : Array Slot) (k9 n9 : Nat), k9 ≤ 27 + 1803 * (t + 1) → n9 ≤ 9078 + 26444 * (t + 1) → hp_KV K → hr_cK D g b (b + 27) K H → hr_tK D g (b + 20) K H → b + 27 ≤ H.size → va_S (fun q => s.heap.size ≤ q) s.heap H locs → lv_has ls 4 [(3, .int (nI (3 * t))), (2, .ref (b + 20)), (1, .ref b), (0, .ref b0)] → W p l e room_1 s m #[Value.ref b0] below meth c H locs k9 n9 (lw_Z below #[Value.ref b0] s) (F0 m 321 ls []) := by
        intro K H locs ls k9 n9 hk9 hn9 hV hC hT hz hS hl
        refine lv_iinc (v := nI (3 * (t + 1))) X.ex X.by dL_law_321 hl (k := 0) rfl (nI_add _ 3) (by decide) rfl (fun ls hl => ?_)
        refine lv_goto (tgt := 18) X.ex X.by dL_law_324 (by decide) ?_
        refine W.widen hk9 hn9 ?_
        exact ih (t + 1) K H locs ls (by omega) (by omega) hV hC hT hz hS hl
      refine lv_aload_n X.ex X.by dL_law_26 rfl (lv_at hl 3 rfl) ?_
      refine lv_iload_n X.ex X.by dL_law_27 rfl (lv_at hl 0 rfl) ?_
      refine va_sld X.ex X.by hXs hbl hbA hS v0 dL_law_28 ?_
      refine lv_bipush (v := 15) X.ex X.by dL_law_29 (by decide) ?_
      refine lv_iand X.ex X.by dL_law_31 ?_
      generalize xs (nI (3 * t)).toNatClampNeg &&& 15 = w
      obtain ⟨y1, hy1⟩ : ∃ y1, y1 = xs (nI (3 * t) + 1).toNatClampNeg := ⟨_, rfl⟩
      obtain ⟨y2, hy2⟩ : ∃ y2, y2 = xs (nI (3 * t) + 2).toNatClampNeg := ⟨_, rfl⟩
      by_cases w0 : w = 0
      · subst w0
        refine lv_tableIn (off := 52) (tgt := 84) X.ex X.by dL_law_32 (by decide) (by decide) (by decide) (by decide) ?_
        refine lv_aload_n X.ex X.by dL_law_84 rfl (lv_at hl 2 rfl) ?_
        refine lv_aload_n X.ex X.by dL_law_85 rfl (lv_at hl 3 rfl) ?_
        refine lv_iload_n X.ex X.by dL_law_86 rfl (lv_at hl 0 rfl) ?_
        refine lv_iconst (v := 1) X.ex X.by dL_law_87 (by decide) ?_
        refine lv_iadd X.ex X.by dL_law_88 ?_
        refine va_sld X.ex X.by hXs hbl hbA hS v1 dL_law_89 ?_
        rw [← hy1]
        refine lv_aload_n X.ex X.by dL_law_90 rfl (lv_at hl 3 rfl) ?_
        refine lv_iload_n X.ex X.by dL_law_91 rfl (lv_at hl 0 rfl) ?_
        refine lv_iconst (v := 2) X.ex X.by dL_law_92 (by decide) ?_
        refine lv_iadd X.ex X.by dL_law_93 ?_
        refine va_sld X.ex X.by hXs hbl hbA hS v2 dL_law_94 ?_
        rw [← hy2]
        refine hr_callVi (As := [.int y1, .int y2]) (mc := 0) (ms := 0) X (k_X0_cell l X.2.1 hb0 hV y1 y2) v_LX0_cell (lw_meth q122) hS hregC (hr_recv X hr_i0 hC.2.1) hC rfl rfl (hr_lR (by decide) ⟨Nat.le_of_ble_eq_true rfl, Nat.le_of_ble_eq_true rfl⟩) hl.1 rfl (Nat.le_of_ble_eq_true rfl) ⟨by show 27 + 1803 * t + 0 ≤ 1203072; omega, by show 9078 + 26444 * t + 0 ≤ 5423402; omega⟩ dL_law_95 (fun r1 H locs hP hS hk => ?_)
        obtain ⟨hr1, hC⟩ := hP
        have hT := hT.kept (H1 := H) (fun q hq h1 h2 => hk.2 q hq (by omega))
        have hz : b + 27 ≤ H.size := Nat.le_trans hz hk.1
        refine lv_aload_n X.ex X.by dL_law_98 rfl (lv_at hl 1 rfl) ?_
        refine lv_aload_n X.ex X.by dL_law_99 rfl (lv_at hl 3 rfl) ?_
        refine lv_iload_n X.ex X.by dL_law_100 rfl (lv_at hl 0 rfl) ?_
        refine lv_iconst (v := 1) X.ex X.by dL_law_101 (by decide) ?_
        refine lv_iadd X.ex X.by dL_law_102 ?_
        refine va_sld X.ex X.by hXs hbl hbA hS v1 dL_law_103 ?_
        rw [← hy1]
        refine lv_aload_n X.ex X.by dL_law_104 rfl (lv_at hl 3 rfl) ?_
        refine lv_iload_n X.ex X.by dL_law_105 rfl (lv_at hl 0 rfl) ?_
        refine lv_iconst (v := 2) X.ex X.by dL_law_106 (by decide) ?_
        refine lv_iadd X.ex X.by dL_law_107 ?_
        refine va_sld X.ex X.by hXs hbl hbA hS v2 dL_law_108 ?_
        rw [← hy2]
        refine hr_callVi (As := [.int y1, .int y2]) (mc := 0) (ms := 0) X (k_X2_cell l X.2.1 (m := b + 20) (by omega) hV y1 y2) v_LX2_cell (lw_meth q466) hS hregT (hr_tR.recv X hT) hT rfl rfl (hr_lR (by decide) ⟨Nat.le_of_ble_eq_true rfl, Nat.le_of_ble_eq_true rfl⟩) hl.1 rfl (Nat.le_of_ble_eq_true rfl) ⟨by show 27 + 1803 * t + 0 + 0 ≤ 1203072; omega, by show 9078 + 26444 * t + 0 + 0 ≤ 5423402; omega⟩ dL_law_109 (fun r2 H locs hP hS hk => ?_)
        obtain ⟨hr2, hT⟩ := hP
        have hC := hC.kept (H1 := H) (fun q hq h1 => hk.2 q hq (by omega))
        have hz : b + 27 ≤ H.size := Nat.le_trans hz hk.1
        refine lv_icmp_eq (tgt := 321) X.ex X.by dL_law_112 (by decide) (fun _ => ?_) (fun c9 => absurd (hr1.trans hr2.symm) c9)
        exact next (ho_cell K y1 y2).2 H locs ls _ _ (by omega) (by omega) (hV.cell y1 y2) hC hT hz hS hl
      by_cases w1 : w = 1
      · subst w1
        refine lv_tableIn (off := 85) (tgt := 117) X.ex X.by dL_law_32 (by decide) (by decide) (by decide) (by decide) ?_
        refine lv_aload_n X.ex X.by dL_law_117 rfl (lv_at hl 2 rfl) ?_
        refine lv_aload_n X.ex X.by dL_law_118 rfl (lv_at hl 3 rfl) ?_
        refine lv_iload_n X.ex X.by dL_law_119 rfl (lv_at hl 0 rfl) ?_
        refine lv_iconst (v := 1) X.ex X.by dL_law_120 (by decide) ?_
        refine lv_iadd X.ex X.by dL_law_121 ?_
        refine va_sld X.ex X.by hXs hbl hbA hS v1 dL_law_122 ?_
        rw [← hy1]
        refine hr_callVi (As := [.int y1]) (mc := 0) (ms := 0) X (k_X0_clear l X.2.1 hb0 hV y1) v_LX0_clear (lw_meth q132) hS hregC (hr_recv X hr_i0 hC.2.1) hC rfl rfl (hr_lR (by decide) ⟨Nat.le_of_ble_eq_true rfl, Nat.le_of_ble_eq_true rfl⟩) hl.1 rfl (Nat.le_of_ble_eq_true rfl) ⟨by show 27 + 1803 * t + 0 ≤ 1203072; omega, by show 9078 + 26444 * t + 0 ≤ 5423402; omega⟩ dL_law_123 (fun r1 H locs hP hS hk => ?_)
        obtain ⟨hr1, hC⟩ := hP
        have hT := hT.kept (H1 := H) (fun q hq h1 h2 => hk.2 q hq (by omega))
        have hz : b + 27 ≤ H.size := Nat.le_trans hz hk.1
        refine lv_aload_n X.ex X.by dL_law_126 rfl (lv_at hl 1 rfl) ?_
        refine lv_aload_n X.ex X.by dL_law_127 rfl (lv_at hl 3 rfl) ?_
        refine lv_iload_n X.ex X.by dL_law_128 rfl (lv_at hl 0 rfl) ?_
        refine lv_iconst (v := 1) X.ex X.by dL_law_129 (by decide) ?_
        refine lv_iadd X.ex X.by dL_law_130 ?_
        refine va_sld X.ex X.by hXs hbl hbA hS v1 dL_law_131 ?_
        rw [← hy1]
        refine hr_callVi (As := [.int y1]) (mc := 0) (ms := 0) X (k_X2_clear l X.2.1 (m := b + 20) (by omega) hV y1) v_LX2_clear (lw_meth q479) hS hregT (hr_tR.recv X hT) hT rfl rfl (hr_lR (by decide) ⟨Nat.le_of_ble_eq_true rfl, Nat.le_of_ble_eq_true rfl⟩) hl.1 rfl (Nat.le_of_ble_eq_true rfl) ⟨by show 27 + 1803 * t + 0 + 0 ≤ 1203072; omega, by show 9078 + 26444 * t + 0 + 0 ≤ 5423402; omega⟩ dL_law_132 (fun r2 H locs hP hS hk => ?_)
        obtain ⟨hr2, hT⟩ := hP
        have hC := hC.kept (H1 := H) (fun q hq h1 => hk.2 q hq (by omega))
        have hz : b + 27 ≤ H.size := Nat.le_trans hz hk.1
        refine lv_icmp_eq (tgt := 321) X.ex X.by dL_law_135 (by decide) (fun _ => ?_) (fun c9 => absurd (hr1.trans hr2.symm) c9)
        exact next (ho_clear K y1).2 H locs ls _ _ (by omega) (by omega) (hV.clear y1) hC hT hz hS hl
      by_cases w2 : w = 2
      · subst w2
        refine lv_tableIn (off := 108) (tgt := 140) X.ex X.by dL_law_32 (by decide) (by decide) (by decide) (by decide) ?_
        refine lv_aload_n X.ex X.by dL_law_140 rfl (lv_at hl 2 rfl) ?_
        refine lv_aload_n X.ex X.by dL_law_141 rfl (lv_at hl 3 rfl) ?_
        refine lv_iload_n X.ex X.by dL_law_142 rfl (lv_at hl 0 rfl) ?_
        refine lv_iconst (v := 1) X.ex X.by dL_law_143 (by decide) ?_
        refine lv_iadd X.ex X.by dL_law_144 ?_
        refine va_sld X.ex X.by hXs hbl hbA hS v1 dL_law_145 ?_
        rw [← hy1]
        refine hr_callVi (As := [.int y1]) (mc := 0) (ms := 0) X (k_X0_tare l X.2.1 hb0 hV y1) v_LX0_tare (lw_meth q136) hS hregC (hr_recv X hr_i0 hC.2.1) hC rfl rfl (hr_lR (by decide) ⟨Nat.le_of_ble_eq_true rfl, Nat.le_of_ble_eq_true rfl⟩) hl.1 rfl (Nat.le_of_ble_eq_true rfl) ⟨by show 27 + 1803 * t + 0 ≤ 1203072; omega, by show 9078 + 26444 * t + 0 ≤ 5423402; omega⟩ dL_law_146 (fun r1 H locs hP hS hk => ?_)
        obtain ⟨hr1, hC⟩ := hP
        have hT := hT.kept (H1 := H) (fun q hq h1 h2 => hk.2 q hq (by omega))
        have hz : b + 27 ≤ H.size := Nat.le_trans hz hk.1
        refine lv_aload_n X.ex X.by dL_law_149 rfl (lv_at hl 1 rfl) ?_
        refine lv_aload_n X.ex X.by dL_law_150 rfl (lv_at hl 3 rfl) ?_
        refine lv_iload_n X.ex X.by dL_law_151 rfl (lv_at hl 0 rfl) ?_
        refine lv_iconst (v := 1) X.ex X.by dL_law_152 (by decide) ?_
        refine lv_iadd X.ex X.by dL_law_153 ?_
        refine va_sld X.ex X.by hXs hbl hbA hS v1 dL_law_154 ?_
        rw [← hy1]
        refine hr_callVi (As := [.int y1]) (mc := 0) (ms := 0) X (k_X2_tare l X.2.1 (m := b + 20) (by omega) hV y1) v_LX2_tare (lw_meth q483) hS hregT (hr_tR.recv X hT) hT rfl rfl (hr_lR (by decide) ⟨Nat.le_of_ble_eq_true rfl, Nat.le_of_ble_eq_true rfl⟩) hl.1 rfl (Nat.le_of_ble_eq_true rfl) ⟨by show 27 + 1803 * t + 0 + 0 ≤ 1203072; omega, by show 9078 + 26444 * t + 0 + 0 ≤ 5423402; omega⟩ dL_law_155 (fun r2 H locs hP hS hk => ?_)
        obtain ⟨hr2, hT⟩ := hP
        have hC := hC.kept (H1 := H) (fun q hq h1 => hk.2 q hq (by omega))
        have hz : b + 27 ≤ H.size := Nat.le_trans hz hk.1
        refine lv_icmp_eq (tgt := 321) X.ex X.by dL_law_158 (by decide) (fun _ => ?_) (fun c9 => absurd (hr1.trans hr2.symm) c9)
        exact next (ho_tare K y1).2 H locs ls _ _ (by omega) (by omega) (hV.tare y1) hC hT hz hS hl
      by_cases w3 : w = 3
      · subst w3
        refine lv_tableIn (off := 131) (tgt := 163) X.ex X.by dL_law_32 (by decide) (by decide) (by decide) (by decide) ?_
        refine lv_aload_n X.ex X.by dL_law_163 rfl (lv_at hl 2 rfl) ?_
        refine lv_aload_n X.ex X.by dL_law_164 rfl (lv_at hl 3 rfl) ?_
        refine lv_iload_n X.ex X.by dL_law_165 rfl (lv_at hl 0 rfl) ?_
        refine lv_iconst (v := 1) X.ex X.by dL_law_166 (by decide) ?_
        refine lv_iadd X.ex X.by dL_law_167 ?_
        refine va_sld X.ex X.by hXs hbl hbA hS v1 dL_law_168 ?_
        rw [← hy1]
        refine lv_aload_n X.ex X.by dL_law_169 rfl (lv_at hl 3 rfl) ?_
        refine lv_iload_n X.ex X.by dL_law_170 rfl (lv_at hl 0 rfl) ?_
        refine lv_iconst (v := 2) X.ex X.by dL_law_171 (by decide) ?_
        refine lv_iadd X.ex X.by dL_law_172 ?_
        refine va_sld X.ex X.by hXs hbl hbA hS v2 dL_law_173 ?_
        rw [← hy2]
        refine hr_callVi (As := [.int y1, .int y2]) (mc := 1) (ms := 1) X (k_X0_crew l X.2.1 hb0 hV y1 y2 hz) v_LX0_crew (lw_meth q140) hS hregC (hr_recv X hr_i0 hC.2.1) hC rfl rfl (hr_lR (by decide) ⟨Nat.le_of_ble_eq_true rfl, Nat.le_of_ble_eq_true rfl⟩) hl.1 rfl (Nat.le_of_ble_eq_true rfl) ⟨by show 27 + 1803 * t + 1 ≤ 1203072; omega, by show 9078 + 26444 * t + 1 ≤ 5423402; omega⟩ dL_law_174 (fun r1 H locs hP hS hk => ?_)
        obtain ⟨hr1, hC⟩ := hP
        have hT := hT.kept (H1 := H) (fun q hq h1 h2 => hk.2 q hq (by omega))
        have hz : b + 27 ≤ H.size := Nat.le_trans hz hk.1
        refine lv_aload_n X.ex X.by dL_law_177 rfl (lv_at hl 1 rfl) ?_
        refine lv_aload_n X.ex X.by dL_law_178 rfl (lv_at hl 3 rfl) ?_
        refine lv_iload_n X.ex X.by dL_law_179 rfl (lv_at hl 0 rfl) ?_
        refine lv_iconst (v := 1) X.ex X.by dL_law_180 (by decide) ?_
        refine lv_iadd X.ex X.by dL_law_181 ?_
        refine va_sld X.ex X.by hXs hbl hbA hS v1 dL_law_182 ?_
        rw [← hy1]
        refine lv_aload_n X.ex X.by dL_law_183 rfl (lv_at hl 3 rfl) ?_
        refine lv_iload_n X.ex X.by dL_law_184 rfl (lv_at hl 0 rfl) ?_
        refine lv_iconst (v := 2) X.ex X.by dL_law_185 (by decide) ?_
        refine lv_iadd X.ex X.by dL_law_186 ?_
        refine va_sld X.ex X.by hXs hbl hbA hS v2 dL_law_187 ?_
        rw [← hy2]
        refine hr_callVi (As := [.int y1, .int y2]) (mc := 0) (ms := 0) X (k_X2_crew l X.2.1 (m := b + 20) (by omega) hV y1 y2) v_LX2_crew (lw_meth q487) hS hregT (hr_tR.recv X hT) hT rfl rfl (hr_lR (by decide) ⟨Nat.le_of_ble_eq_true rfl, Nat.le_of_ble_eq_true rfl⟩) hl.1 rfl (Nat.le_of_ble_eq_true rfl) ⟨by show 27 + 1803 * t + 1 + 0 ≤ 1203072; omega, by show 9078 + 26444 * t + 1 + 0 ≤ 5423402; omega⟩ dL_law_188 (fun r2 H locs hP hS hk => ?_)
        obtain ⟨hr2, hT⟩ := hP
        have hC := hC.kept (H1 := H) (fun q hq h1 => hk.2 q hq (by omega))
        have hz : b + 27 ≤ H.size := Nat.le_trans hz hk.1
        refine lv_icmp_eq (tgt := 321) X.ex X.by dL_law_191 (by decide) (fun _ => ?_) (fun c9 => absurd (hr1.trans hr2.symm) c9)
        exact next (ho_crew K y1 y2).2 H locs ls _ _ (by omega) (by omega) (hV.crew y1 y2) hC hT hz hS hl
      by_cases w4 : w = 4
      · subst w4
        refine lv_tableIn (off := 164) (tgt := 196) X.ex X.by dL_law_32 (by decide) (by decide) (by decide) (by decide) ?_
        refine lv_aload_n X.ex X.by dL_law_196 rfl (lv_at hl 2 rfl) ?_
        refine lv_aload_n X.ex X.by dL_law_197 rfl (lv_at hl 3 rfl) ?_
        refine lv_iload_n X.ex X.by dL_law_198 rfl (lv_at hl 0 rfl) ?_
        refine lv_iconst (v := 1) X.ex X.by dL_law_199 (by decide) ?_
        refine lv_iadd X.ex X.by dL_law_200 ?_
        refine va_sld X.ex X.by hXs hbl hbA hS v1 dL_law_201 ?_
        rw [← hy1]
        refine lv_aload_n X.ex X.by dL_law_202 rfl (lv_at hl 3 rfl) ?_
        refine lv_iload_n X.ex X.by dL_law_203 rfl (lv_at hl 0 rfl) ?_
        refine lv_iconst (v := 2) X.ex X.by dL_law_204 (by decide) ?_
        refine lv_iadd X.ex X.by dL_law_205 ?_
        refine va_sld X.ex X.by hXs hbl hbA hS v2 dL_law_206 ?_
        rw [← hy2]
        refine hr_callVi (As := [.int y1, .int y2]) (mc := 1803) (ms := 26444) X (k_X0_run l hfl X.2.1 hb0 hV y1 y2 hz) v_LX0_run hg_R hS hregC (hr_recv X hr_i0 hC.2.1) hC rfl rfl (hr_lR2 (by decide) ⟨Nat.le_of_ble_eq_true rfl, Nat.le_of_ble_eq_true rfl⟩) hl.1 rfl (Nat.le_of_ble_eq_true rfl) ⟨by show 27 + 1803 * t + 1803 ≤ 1203072; omega, by show 9078 + 26444 * t + 26444 ≤ 5423402; omega⟩ dL_law_207 (fun r1 H locs hP hS hk => ?_)
        obtain ⟨hr1, hC⟩ := hP
        have hT := hT.kept (H1 := H) (fun q hq h1 h2 => hk.2 q hq (by omega))
        have hz : b + 27 ≤ H.size := Nat.le_trans hz hk.1
        refine lv_aload_n X.ex X.by dL_law_210 rfl (lv_at hl 1 rfl) ?_
        refine lv_aload_n X.ex X.by dL_law_211 rfl (lv_at hl 3 rfl) ?_
        refine lv_iload_n X.ex X.by dL_law_212 rfl (lv_at hl 0 rfl) ?_
        refine lv_iconst (v := 1) X.ex X.by dL_law_213 (by decide) ?_
        refine lv_iadd X.ex X.by dL_law_214 ?_
        refine va_sld X.ex X.by hXs hbl hbA hS v1 dL_law_215 ?_
        rw [← hy1]
        refine lv_aload_n X.ex X.by dL_law_216 rfl (lv_at hl 3 rfl) ?_
        refine lv_iload_n X.ex X.by dL_law_217 rfl (lv_at hl 0 rfl) ?_
        refine lv_iconst (v := 2) X.ex X.by dL_law_218 (by decide) ?_
        refine lv_iadd X.ex X.by dL_law_219 ?_
        refine va_sld X.ex X.by hXs hbl hbA hS v2 dL_law_220 ?_
        rw [← hy2]
        refine hr_callVi (As := [.int y1, .int y2]) (mc := 0) (ms := 0) X (k_X2_run l X.2.1 (m := b + 20) (by omega) hV y1 y2) v_LX2_run (lw_meth q491) hS hregT (hr_tR.recv X hT) hT rfl rfl (hr_lR (by decide) ⟨Nat.le_of_ble_eq_true rfl, Nat.le_of_ble_eq_true rfl⟩) hl.1 rfl (Nat.le_of_ble_eq_true rfl) ⟨by show 27 + 1803 * t + 1803 + 0 ≤ 1203072; omega, by show 9078 + 26444 * t + 26444 + 0 ≤ 5423402; omega⟩ dL_law_221 (fun r2 H locs hP hS hk => ?_)
        obtain ⟨hr2, hT⟩ := hP
        have hC := hC.kept (H1 := H) (fun q hq h1 => hk.2 q hq (by omega))
        have hz : b + 27 ≤ H.size := Nat.le_trans hz hk.1
        refine lv_icmp_eq (tgt := 321) X.ex X.by dL_law_224 (by decide) (fun _ => ?_) (fun c9 => absurd (hr1.trans hr2.symm) c9)
        exact next (ho_run K y1 y2).2 H locs ls _ _ (by omega) (by omega) (hV.run y1 y2) hC hT hz hS hl
      by_cases w5 : w = 5
      · subst w5
        refine lv_tableIn (off := 197) (tgt := 229) X.ex X.by dL_law_32 (by decide) (by decide) (by decide) (by decide) ?_
        refine lv_aload_n X.ex X.by dL_law_229 rfl (lv_at hl 2 rfl) ?_
        refine lv_aload_n X.ex X.by dL_law_230 rfl (lv_at hl 3 rfl) ?_
        refine lv_iload_n X.ex X.by dL_law_231 rfl (lv_at hl 0 rfl) ?_
        refine lv_iconst (v := 1) X.ex X.by dL_law_232 (by decide) ?_
        refine lv_iadd X.ex X.by dL_law_233 ?_
        refine va_sld X.ex X.by hXs hbl hbA hS v1 dL_law_234 ?_
        rw [← hy1]
        refine hr_callVi (As := [.int y1]) (mc := 0) (ms := 0) X (k_X0_told l X.2.1 hb0 hV y1) v_LX0_told (lw_meth q392) hS hregC (hr_recv X hr_i0 hC.2.1) hC rfl rfl (hr_lR (by decide) ⟨Nat.le_of_ble_eq_true rfl, Nat.le_of_ble_eq_true rfl⟩) hl.1 rfl (Nat.le_of_ble_eq_true rfl) ⟨by show 27 + 1803 * t + 0 ≤ 1203072; omega, by show 9078 + 26444 * t + 0 ≤ 5423402; omega⟩ dL_law_235 (fun r1 H locs hP hS hk => ?_)
        obtain ⟨hr1, hC⟩ := hP
        have hT := hT.kept (H1 := H) (fun q hq h1 h2 => hk.2 q hq (by omega))
        have hz : b + 27 ≤ H.size := Nat.le_trans hz hk.1
        refine lv_aload_n X.ex X.by dL_law_238 rfl (lv_at hl 1 rfl) ?_
        refine lv_aload_n X.ex X.by dL_law_239 rfl (lv_at hl 3 rfl) ?_
        refine lv_iload_n X.ex X.by dL_law_240 rfl (lv_at hl 0 rfl) ?_
        refine lv_iconst (v := 1) X.ex X.by dL_law_241 (by decide) ?_
        refine lv_iadd X.ex X.by dL_law_242 ?_
        refine va_sld X.ex X.by hXs hbl hbA hS v1 dL_law_243 ?_
        rw [← hy1]
        refine hr_callVi (As := [.int y1]) (mc := 0) (ms := 0) X (k_X2_told l X.2.1 (m := b + 20) (by omega) hV y1) v_LX2_told (lw_meth q555) hS hregT (hr_tR.recv X hT) hT rfl rfl (hr_lR (by decide) ⟨Nat.le_of_ble_eq_true rfl, Nat.le_of_ble_eq_true rfl⟩) hl.1 rfl (Nat.le_of_ble_eq_true rfl) ⟨by show 27 + 1803 * t + 0 + 0 ≤ 1203072; omega, by show 9078 + 26444 * t + 0 + 0 ≤ 5423402; omega⟩ dL_law_244 (fun r2 H locs hP hS hk => ?_)
        obtain ⟨hr2, hT⟩ := hP
        have hC := hC.kept (H1 := H) (fun q hq h1 => hk.2 q hq (by omega))
        have hz : b + 27 ≤ H.size := Nat.le_trans hz hk.1
        refine lv_icmp_eq (tgt := 321) X.ex X.by dL_law_247 (by decide) (fun _ => ?_) (fun c9 => absurd (hr1.trans hr2.symm) c9)
        exact next K H locs ls _ _ (by omega) (by omega) (hV) hC hT hz hS hl
      by_cases w6 : w = 6
      · subst w6
        refine lv_tableIn (off := 220) (tgt := 252) X.ex X.by dL_law_32 (by decide) (by decide) (by decide) (by decide) ?_
        refine lv_aload_n X.ex X.by dL_law_252 rfl (lv_at hl 2 rfl) ?_
        refine lv_aload_n X.ex X.by dL_law_253 rfl (lv_at hl 3 rfl) ?_
        refine lv_iload_n X.ex X.by dL_law_254 rfl (lv_at hl 0 rfl) ?_
        refine lv_iconst (v := 1) X.ex X.by dL_law_255 (by decide) ?_
        refine lv_iadd X.ex X.by dL_law_256 ?_
        refine va_sld X.ex X.by hXs hbl hbA hS v1 dL_law_257 ?_
        rw [← hy1]
        refine hr_callVi (As := [.int y1]) (mc := 0) (ms := 0) X (k_X0_note l X.2.1 hb0 hV y1) v_LX0_note (lw_meth q396) hS hregC (hr_recv X hr_i0 hC.2.1) hC rfl rfl (hr_lR (by decide) ⟨Nat.le_of_ble_eq_true rfl, Nat.le_of_ble_eq_true rfl⟩) hl.1 rfl (Nat.le_of_ble_eq_true rfl) ⟨by show 27 + 1803 * t + 0 ≤ 1203072; omega, by show 9078 + 26444 * t + 0 ≤ 5423402; omega⟩ dL_law_258 (fun r1 H locs hP hS hk => ?_)
        obtain ⟨hr1, hC⟩ := hP
        have hT := hT.kept (H1 := H) (fun q hq h1 h2 => hk.2 q hq (by omega))
        have hz : b + 27 ≤ H.size := Nat.le_trans hz hk.1
        refine lv_aload_n X.ex X.by dL_law_261 rfl (lv_at hl 1 rfl) ?_
        refine lv_aload_n X.ex X.by dL_law_262 rfl (lv_at hl 3 rfl) ?_
        refine lv_iload_n X.ex X.by dL_law_263 rfl (lv_at hl 0 rfl) ?_
        refine lv_iconst (v := 1) X.ex X.by dL_law_264 (by decide) ?_
        refine lv_iadd X.ex X.by dL_law_265 ?_
        refine va_sld X.ex X.by hXs hbl hbA hS v1 dL_law_266 ?_
        rw [← hy1]
        refine hr_callVi (As := [.int y1]) (mc := 0) (ms := 0) X (k_X2_note l X.2.1 (m := b + 20) (by omega) hV y1) v_LX2_note (lw_meth q559) hS hregT (hr_tR.recv X hT) hT rfl rfl (hr_lR (by decide) ⟨Nat.le_of_ble_eq_true rfl, Nat.le_of_ble_eq_true rfl⟩) hl.1 rfl (Nat.le_of_ble_eq_true rfl) ⟨by show 27 + 1803 * t + 0 + 0 ≤ 1203072; omega, by show 9078 + 26444 * t + 0 + 0 ≤ 5423402; omega⟩ dL_law_267 (fun r2 H locs hP hS hk => ?_)
        obtain ⟨hr2, hT⟩ := hP
        have hC := hC.kept (H1 := H) (fun q hq h1 => hk.2 q hq (by omega))
        have hz : b + 27 ≤ H.size := Nat.le_trans hz hk.1
        refine lv_icmp_eq (tgt := 321) X.ex X.by dL_law_270 (by decide) (fun _ => ?_) (fun c9 => absurd (hr1.trans hr2.symm) c9)
        exact next K H locs ls _ _ (by omega) (by omega) (hV) hC hT hz hS hl
      by_cases w7 : w = 7
      · subst w7
        refine lv_tableIn (off := 243) (tgt := 275) X.ex X.by dL_law_32 (by decide) (by decide) (by decide) (by decide) ?_
        refine lv_aload_n X.ex X.by dL_law_275 rfl (lv_at hl 2 rfl) ?_
        refine lv_aload_n X.ex X.by dL_law_276 rfl (lv_at hl 3 rfl) ?_
        refine lv_iload_n X.ex X.by dL_law_277 rfl (lv_at hl 0 rfl) ?_
        refine lv_iconst (v := 1) X.ex X.by dL_law_278 (by decide) ?_
        refine lv_iadd X.ex X.by dL_law_279 ?_
        refine va_sld X.ex X.by hXs hbl hbA hS v1 dL_law_280 ?_
        rw [← hy1]
        refine hr_callVi (As := [.int y1]) (mc := 0) (ms := 0) X (k_X0_held l X.2.1 hb0 hV y1) v_LX0_held (lw_meth q400) hS hregC (hr_recv X hr_i0 hC.2.1) hC rfl rfl (hr_lR (by decide) ⟨Nat.le_of_ble_eq_true rfl, Nat.le_of_ble_eq_true rfl⟩) hl.1 rfl (Nat.le_of_ble_eq_true rfl) ⟨by show 27 + 1803 * t + 0 ≤ 1203072; omega, by show 9078 + 26444 * t + 0 ≤ 5423402; omega⟩ dL_law_281 (fun r1 H locs hP hS hk => ?_)
        obtain ⟨hr1, hC⟩ := hP
        have hT := hT.kept (H1 := H) (fun q hq h1 h2 => hk.2 q hq (by omega))
        have hz : b + 27 ≤ H.size := Nat.le_trans hz hk.1
        refine lv_aload_n X.ex X.by dL_law_284 rfl (lv_at hl 1 rfl) ?_
        refine lv_aload_n X.ex X.by dL_law_285 rfl (lv_at hl 3 rfl) ?_
        refine lv_iload_n X.ex X.by dL_law_286 rfl (lv_at hl 0 rfl) ?_
        refine lv_iconst (v := 1) X.ex X.by dL_law_287 (by decide) ?_
        refine lv_iadd X.ex X.by dL_law_288 ?_
        refine va_sld X.ex X.by hXs hbl hbA hS v1 dL_law_289 ?_
        rw [← hy1]
        refine hr_callVi (As := [.int y1]) (mc := 0) (ms := 0) X (k_X2_held l X.2.1 (m := b + 20) (by omega) hV y1) v_LX2_held (lw_meth q563) hS hregT (hr_tR.recv X hT) hT rfl rfl (hr_lR (by decide) ⟨Nat.le_of_ble_eq_true rfl, Nat.le_of_ble_eq_true rfl⟩) hl.1 rfl (Nat.le_of_ble_eq_true rfl) ⟨by show 27 + 1803 * t + 0 + 0 ≤ 1203072; omega, by show 9078 + 26444 * t + 0 + 0 ≤ 5423402; omega⟩ dL_law_290 (fun r2 H locs hP hS hk => ?_)
        obtain ⟨hr2, hT⟩ := hP
        have hC := hC.kept (H1 := H) (fun q hq h1 => hk.2 q hq (by omega))
        have hz : b + 27 ≤ H.size := Nat.le_trans hz hk.1
        refine lv_icmp_eq (tgt := 321) X.ex X.by dL_law_293 (by decide) (fun _ => ?_) (fun c9 => absurd (hr1.trans hr2.symm) c9)
        exact next K H locs ls _ _ (by omega) (by omega) (hV) hC hT hz hS hl
      by_cases w8 : w = 8
      · subst w8
        refine lv_tableIn (off := 266) (tgt := 298) X.ex X.by dL_law_32 (by decide) (by decide) (by decide) (by decide) ?_
        refine lv_aload_n X.ex X.by dL_law_298 rfl (lv_at hl 2 rfl) ?_
        refine lv_aload_n X.ex X.by dL_law_299 rfl (lv_at hl 3 rfl) ?_
        refine lv_iload_n X.ex X.by dL_law_300 rfl (lv_at hl 0 rfl) ?_
        refine lv_iconst (v := 1) X.ex X.by dL_law_301 (by decide) ?_
        refine lv_iadd X.ex X.by dL_law_302 ?_
        refine va_sld X.ex X.by hXs hbl hbA hS v1 dL_law_303 ?_
        rw [← hy1]
        refine hr_callVi (As := [.int y1]) (mc := 0) (ms := 0) X (k_X0_cells l X.2.1 hb0 hV y1) v_LX0_cells (lw_meth q404) hS hregC (hr_recv X hr_i0 hC.2.1) hC rfl rfl (hr_lR (by decide) ⟨Nat.le_of_ble_eq_true rfl, Nat.le_of_ble_eq_true rfl⟩) hl.1 rfl (Nat.le_of_ble_eq_true rfl) ⟨by show 27 + 1803 * t + 0 ≤ 1203072; omega, by show 9078 + 26444 * t + 0 ≤ 5423402; omega⟩ dL_law_304 (fun r1 H locs hP hS hk => ?_)
        obtain ⟨hr1, hC⟩ := hP
        have hT := hT.kept (H1 := H) (fun q hq h1 h2 => hk.2 q hq (by omega))
        have hz : b + 27 ≤ H.size := Nat.le_trans hz hk.1
        refine lv_aload_n X.ex X.by dL_law_307 rfl (lv_at hl 1 rfl) ?_
        refine lv_aload_n X.ex X.by dL_law_308 rfl (lv_at hl 3 rfl) ?_
        refine lv_iload_n X.ex X.by dL_law_309 rfl (lv_at hl 0 rfl) ?_
        refine lv_iconst (v := 1) X.ex X.by dL_law_310 (by decide) ?_
        refine lv_iadd X.ex X.by dL_law_311 ?_
        refine va_sld X.ex X.by hXs hbl hbA hS v1 dL_law_312 ?_
        rw [← hy1]
        refine hr_callVi (As := [.int y1]) (mc := 0) (ms := 0) X (k_X2_cells l X.2.1 (m := b + 20) (by omega) hV y1) v_LX2_cells (lw_meth q567) hS hregT (hr_tR.recv X hT) hT rfl rfl (hr_lR (by decide) ⟨Nat.le_of_ble_eq_true rfl, Nat.le_of_ble_eq_true rfl⟩) hl.1 rfl (Nat.le_of_ble_eq_true rfl) ⟨by show 27 + 1803 * t + 0 + 0 ≤ 1203072; omega, by show 9078 + 26444 * t + 0 + 0 ≤ 5423402; omega⟩ dL_law_313 (fun r2 H locs hP hS hk => ?_)
        obtain ⟨hr2, hT⟩ := hP
        have hC := hC.kept (H1 := H) (fun q hq h1 => hk.2 q hq (by omega))
        have hz : b + 27 ≤ H.size := Nat.le_trans hz hk.1
        refine lv_icmp_eq (tgt := 321) X.ex X.by dL_law_316 (by decide) (fun _ => ?_) (fun c9 => absurd (hr1.trans hr2.symm) c9)
        exact next K H locs ls _ _ (by omega) (by omega) (hV) hC hT hz hS hl
      refine lv_tableOut (tgt := 321) X.ex X.by dL_law_32 (hp_tab9 w0 w1 w2 w3 w4 w5 w6 w7 w8) (by decide) ?_
      exact next K H locs ls _ _ (by omega) (by omega) hV hC hT hz hS hl
set_option maxHeartbeats 8000000 in
/-- from the entry, for every script of at most 192 ints, the law comes to its end with true -/
theorem whole_start {p : Program} {e : Env} {s : State} {m : MethodId} {below : List Frame} {meth : Method} {c : Code} (l : Launch) (hfl : l.flags = flags0) {b L : Nat} {xs : Nat → Int32} (hL : L ≤ 192) (C0 : lw_At p s m meth c b L xs) : W p l e room_1 s m #[Value.ref b] below meth c s.heap [] 0 0 (lw_Z below #[Value.ref b] s) (entryFrame m ([Value.ref b] : List Value).toArray 4) := by
  obtain ⟨hx, hb, hr, hml, hown, hts, hXs, hbl, hlocks, hgv⟩ := id C0
  obtain ⟨D, g, Z⟩ := law_known hts hgv
  have X : hr_X p s m #[Value.ref b] c code 4 R_law s D g (fun q => s.heap.size ≤ q) := ⟨⟨hx, hb, hml, hown, fun w h => hts w (lw_all_tbl h)⟩, Z, ⟨State.WarmedH.refl s, fun _ _ => rfl⟩, fun _ h => h, fun _ h => h⟩
  have hS : va_S (fun q : Nat => s.heap.size ≤ q) s.heap s.heap [] := va_S.rf
  have hl := lv_entry ([.ref b]) (n := 4) (Nat.le_of_ble_eq_true rfl)
  rw [lg_entry_eq]
  generalize (lg_sl ([.ref b]) ++ List.replicate (4 - (lg_sl ([.ref b])).length) Slot.unset).toArray = ls at hl ⊢
  have hl : lv_has ls 4 [(0, .ref b)] := hl
  obtain ⟨x0, hx0⟩ : ∃ x0, s.heap.size = x0 := ⟨_, rfl⟩
  refine hr_newA X hr_i0 hS hx0 q41 q42 q26 (fs := [.null, .null, .int 0, .int 0, .int 0, .int 0, .int 0, .int 0, .int 0, .int 0, .int 0, .int 0, .null, .int 0, .int 0, .int 0, .int 0]) (fun j hj => by rcases (show j = 0 ∨ j = 1 ∨ j = 2 ∨ j = 3 ∨ j = 4 ∨ j = 5 ∨ j = 6 ∨ j = 7 ∨ j = 8 ∨ j = 9 ∨ j = 10 ∨ j = 11 ∨ j = 12 ∨ j = 13 ∨ j = 14 ∨ j = 15 ∨ j = 16 by omega) with rfl | rfl | rfl | rfl | rfl | rfl | rfl | rfl | rfl | rfl | rfl | rfl | rfl | rfl | rfl | rfl | rfl <;> rfl) (Nat.le_of_ble_eq_true rfl) (Nat.le_of_ble_eq_true rfl) dL_law_0 (fun H hN zN oN hS => ?_)
  refine lv_dup X.ex X.by dL_law_3 rfl ?_
  refine hr_callIv (As := []) (lo := x0) (n := 1) (mc := 19) (ms := 2924) X (k_X0_init l Z (b := x0) (by omega) zN) v_X0_init (lw_meth q45) hS (fun q h1 h2 => by show s.heap.size ≤ q; omega) hN rfl rfl (hr_lR (by decide) ⟨Nat.le_of_ble_eq_true rfl, Nat.le_of_ble_eq_true rfl⟩) hl.1 rfl (Nat.le_of_ble_eq_true rfl) ⟨Nat.le_of_ble_eq_true rfl, Nat.le_of_ble_eq_true rfl⟩ dL_law_4 (fun H locs hP hS hk => ?_)
  have hz : H.size = x0 + 20 := hP.2.2.2.2.2
  have hC := hP.done (z := x0 + 27) (by omega)
  refine lv_astore_n X.ex X.by dL_law_7 rfl hl (by decide) rfl (fun ls hl => ?_)
  have hl : lv_has ls 4 [(1, _), (0, _)] := hl
  refine hr_newA X hr_i3 hS hz q405 q406 q28 (fs := [.null, .null, .null, .int 0, .int 0, .int 0, .int 0, .int 0, .int 0, .int 0, .int 0, .int 0, .int 0, .null, .int 0, .null, .null]) (fun j hj => by rcases (show j = 0 ∨ j = 1 ∨ j = 2 ∨ j = 3 ∨ j = 4 ∨ j = 5 ∨ j = 6 ∨ j = 7 ∨ j = 8 ∨ j = 9 ∨ j = 10 ∨ j = 11 ∨ j = 12 ∨ j = 13 ∨ j = 14 ∨ j = 15 ∨ j = 16 by omega) with rfl | rfl | rfl | rfl | rfl | rfl | rfl | rfl | rfl | rfl | rfl | rfl | rfl | rfl | rfl | rfl | rfl <;> rfl) (Nat.le_of_ble_eq_true rfl) (Nat.le_of_ble_eq_true rfl) dL_law_8 (fun H hN zN oN hS => ?_)
  have hC := hC.kept (H1 := H) (fun q hq _ => oN q (by omega))
  refine lv_dup X.ex X.by dL_law_11 rfl ?_
  refine hr_callIv (As := []) (lo := x0 + 20) (n := 1) (mc := 6) (ms := 6120) X (k_X2_init l Z (m := x0 + 20) (by omega) zN) v_X2_init (lw_meth q409) hS (fun q h1 h2 => by show s.heap.size ≤ q; omega) hN rfl rfl (hr_lR (by decide) ⟨Nat.le_of_ble_eq_true rfl, Nat.le_of_ble_eq_true rfl⟩) hl.1 rfl (Nat.le_of_ble_eq_true rfl) ⟨Nat.le_of_ble_eq_true rfl, Nat.le_of_ble_eq_true rfl⟩ dL_law_12 (fun H locs hP hS hk => ?_)
  obtain ⟨hT, hz⟩ := hP
  have hC := hC.kept (H1 := H) (fun q hq h1 => hk.2 q hq (by omega))
  refine lv_astore_n X.ex X.by dL_law_15 rfl hl (by decide) rfl (fun ls hl => ?_)
  have hl : lv_has ls 4 [(2, _), (1, _), (0, _)] := hl
  refine lv_iconst (v := 0) X.ex X.by dL_law_16 (by decide) ?_
  refine lv_istore_n X.ex X.by dL_law_17 rfl hl (by decide) rfl (fun ls hl => ?_)
  have hl : lv_has ls 4 [(3, _), (2, _), (1, _), (0, _)] := hl
  exact law_loop l hfl hL C0 X (b := x0) (by omega) 65 0 hp_K0 H locs ls rfl (Nat.zero_le _) hp_KV.zero hC hT (by omega) hS hl
end HRLW
end
section
/-! THE CLAIM, out of the law's walk (the skeleton's end, with the launch's flags carried along) -/
def lw_P (b : Addr) (xs : List Int32) (args : Array Value) (s : State) : Prop := args = #[.ref b] ∧ s.IntsAt b xs ∧ xs.length ≤ 192 ∧ (Jvm.Cond.and given_1 narrow_1).before args s = true
set_option maxHeartbeats 4000000 in
theorem lw_walk (l : Launch) (hfl : l.flags = flags0) (b : Addr) (xs : List Int32) : MetFree l x (headSpec (Jvm.Cond.code x code maxLocals ret :: tables_1) room_1) (lw_P b xs) (fun _ _ _ _ _ => True) lw_Q := by
  refine MetFree.of_bodyS (code := code) (maxLocals := maxLocals) (ret := ret) (by decide) ?_ ?_
  · intro args s m h hn
    obtain ⟨meth, c, h1, h2, h3, h4, h5, h6, -, -⟩ := Cond.code_spec hn (atoms_spec (ws := Jvm.Cond.code x code maxLocals ret :: tables_1) h _ List.mem_cons_self)
    exact ⟨meth, c, h1, h2, h3, h4, h5, h6⟩
  · intro p e s m args below meth c s₁ B hml0 hP _
    obtain ⟨rfl, hx, hbd, hgv⟩ := hP
    obtain ⟨scr, harrAt, hlist, hof, hsmall⟩ := hx
    obtain ⟨hcb, hkn, -, -⟩ := State.arrayAt?_spec harrAt
    have hown : s.vm.findClass R_law = some m.cls := findClass_of_methodNamed B.named
    have hts0 : ∀ c ∈ (Jvm.Cond.code x code maxLocals ret :: tables_1), c.before #[Value.ref b] s = true := atoms_spec (ws := Jvm.Cond.code x code maxLocals ret :: tables_1) B.pre
    have hts : ∀ w ∈ lw_tbl, w.before #[Value.ref b] s = true := k2_hts_sels lw_privs (fun w hw => hts0 w (List.mem_cons_of_mem _ hw)) lw_privs_ok
    have hml : c.maxLocals = 4 := B.maxLocals_eq (hts0 _ List.mem_cons_self)
    have X₀ : Stand p l e room_1 s m #[Value.ref b] below meth c s₁ [] 0 0 := Stand.of_body B
    have hh0 : s₁.heap = s.heap := by rw [B.state]; rfl
    have hsz : scr.slots.size = xs.length := by rw [← Array.length_toList, hlist, List.length_map]
    have hval : ∀ j : Nat, j < xs.length → scr.slots[j]? = some (.int (xs.getD j 0)) := fun j hj => by
      rw [← Array.getElem?_toList, hlist]
      simp [hj]
    have hbl : b < s.heap.size := (Array.getElem?_eq_some_iff.mp hcb).1
    have hX : va_X b xs.length (fun j => xs.getD j 0) s s.heap := ⟨scr, hcb, hof, hkn, hsz, hval⟩
    have K : W p l e room_1 s m #[Value.ref b] below meth c s₁.heap [] 0 0 (lw_Z below #[Value.ref b] s) (entryFrame m ([Value.ref b] : List Value).toArray 4) := by
      rw [hh0]
      exact whole_start l hfl hbd ⟨B.exec, B.bytes, B.returns, hml, hown, hts, hX, hbl, B.notSynchronized, hgv⟩
    obtain ⟨t, a1, o, b1, b2, b3⟩ := K s₁ rfl X₀
    exact ⟨t, o, a1, b1, b2, b3⟩
theorem lw_pre_spec {args : Array Value} {s : State} (h : (Jvm.Cond.and given_1 narrow_1).before args s = true) (hr : rest_1_c.before args s = true) : ∃ (b : Addr) (xs : List Int32), lw_P b xs args s := by
  have hs := flat_of_before _ h
  have hq := flat_of_before _ hr
  have hc : (Cond.count 1).before args s = true := hs _ (by decide +kernel)
  have harr : (Cond.arrayOf (.arg 0) .int).before args s = true := hs _ (by decide +kernel)
  have hle : (Cond.le (.length (.arg 0)) (.int 192)).before args s = true := hs _ (by decide +kernel)
  have hlen : (Cond.isInt (.length (.arg 0))).before args s = true := hq _ (by decide +kernel)
  have hall : (Cond.all (.arg 0) (.isInt (.elem (.arg 0) (.index 0)))).before args s = true := hq _ (by decide +kernel)
  obtain ⟨b, xs, hb, hx⟩ := State.ints_of_pre rfl harr hlen hall
  have hsm : xs.length < 2 ^ 31 := hx.choose_spec.2.2.2
  have hev : (Term.length (.arg 0)).eval args s none [] s = some (.int xs.length.toInt32) := hx.length_eval hb
  have hv := Cond.le_ints hev (show (Term.int 192).eval args s none [] s = some (.int 192) from rfl)
  have hd : xs.length.toInt32 ≤ 192 := by
    simpa [Cond.before, Cond.holds, hv] using hle
  have hN : xs.length ≤ 192 := (Int32.ofNat_le_ofNat hsm (by decide)).mp (show Int32.ofNat xs.length ≤ Int32.ofNat 192 from hd)
  exact ⟨b, xs, Cond.one_arg hc (show args[0]? = some (.ref b) from hb), hx, hN, h⟩
theorem lw_comes (l : Launch) (hfl : l.flags = flags0) : Comes l x (Jvm.Cond.code x code maxLocals ret :: tables_1) room_1 (fun tb e args s => Calls_1 tb e args s ∧ rest_1 tb e args s ∧ Pre_1 tb e args s)
    (fun _ _ args s o t => lw_Q args s o t) := by
  intro p e ha hc hk s m args below hf hfit hheap happ hpre
  obtain ⟨b, xs, hP⟩ := lw_pre_spec hpre.2.2 hpre.2.1
  obtain ⟨k, o, h1, h2, h3, hQ⟩ := lw_walk l hfl b xs p e ha hc hk s m args below hf ((Spec.applies_iff_loose hf).mp happ).1 hP trivial
  exact ⟨k, o, h1, h2, h3, hQ⟩
theorem lw_frame {s t : State} {o : Outcome} {args : Array Value} (h : Framed s o t [] 1203072 5423402) :
    Framed s o t (fieldLocs frame_1_writes args s ++ arrayLocs frame_1_arrays args s ++ staticLocs frame_1_statics s) 1203072 5423402 := h
theorem lw_limb (L : Cond) (hL : ∀ (args : Array Value) (s t : State), L.after args s (.returned (some (.int 1))) t = true) :
    ArmFor flags0 classFile x code maxLocals ret World_1 tables_1 room_1 Calls_1 rest_1 Pre_1
      (fun tb e a s o t => postC L tb e a s o t ∧ Framed s o t (fieldLocs frame_1_writes a s ++ arrayLocs frame_1_arrays a s ++ staticLocs frame_1_statics s) 1203072 5423402) := by
  intro l hfl _ _ p e ha hc hk s m args below hf hfit hheap happ hpre
  obtain ⟨k, o, h1, h2, h3, rfl, hF⟩ := lw_comes l hfl p e ha hc hk s m args below hf hfit hheap happ hpre
  exact ⟨k, _, h1, h2, h3, hL args s _, lw_frame hF⟩
theorem i_vc : Claimed_1_1 ∧ Claimed_1_2 := ⟨lw_limb limb_1_1 (fun args s t => by simp [limb_1_1, Cond.after, Cond.holds, Cond.value]), lw_limb limb_1_2 (fun args s t => Cond.after_iff.mpr (by
  first | (rw [show limb_1_2 = Cond.eq .result (.int 1) from rfl, Cond.eq_ints (x := 1) (y := 1) rfl rfl]; simp; done) | (simp [limb_1_2, Cond.value, Term.eval]; done)))⟩
end
