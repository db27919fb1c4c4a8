section
/-! the Bool mirror's own words, and one row for each: the Bool form gives the printed form -/
def cz_in (i : Int32) (n : Nat) : Bool := if i < 0 then false else decide (i.toNatClampNeg < n)
def cz_nar (x : Int32) : Bool := if x = 0 then true else decide (x = 1)
/-- the value is worked out before the rest reads it -/
def cz_f (x : Int32) (k : Int32 → Bool) : Bool := match x.toBitVec.toNat with
  | 0 => k (Int32.ofNat 0)
  | n + 1 => k (Int32.ofNat (n + 1))
def cz_u (a : Nat → Int32) (j : Nat) (x : Int32) (k : (Nat → Int32) → Bool) : Bool := match j with
  | 0 => cz_f x (fun v => k (upd a 0 v))
  | n + 1 => cz_f x (fun v => k (upd a (n + 1) v))
theorem cz_ofN (x : Int32) : Int32.ofNat x.toBitVec.toNat = x := by
  apply Int32.toBitVec_inj.mp
  apply BitVec.eq_of_toNat_eq
  show (BitVec.ofNat 32 _).toNat = _
  rw [BitVec.toNat_ofNat]
  exact Nat.mod_eq_of_lt x.toBitVec.isLt
theorem cz_f_eq (x : Int32) (k : Int32 → Bool) : cz_f x k = k x := by
  have h := cz_ofN x
  unfold cz_f
  split
  · next e => rw [e] at h; rw [h]
  · next m e => rw [e] at h; rw [h]
theorem cz_u_eq (a : Nat → Int32) (j : Nat) (x : Int32) (k : (Nat → Int32) → Bool) : cz_u a j x k = k (upd a j x) := by
  cases j with
  | zero => exact cz_f_eq x (fun v => k (upd a 0 v))
  | succ m => exact cz_f_eq x (fun v => k (upd a (m + 1) v))
theorem cc_if {c : Prop} [Decidable c] {A' B' : Bool} {A B : Prop} (f : A' = true → A) (g : B' = true → B) : (if c then A' else B') = true → (c → A) ∧ (¬ c → B) := by
  intro h
  refine ⟨fun z => f ?_, fun z => g ?_⟩
  · rw [if_pos z] at h
    exact h
  · rw [if_neg z] at h
    exact h
theorem cc_in {i : Int32} {n : Nat} {b : Bool} {P : Prop} (f : b = true → P) : (cz_in i n && b) = true → vp_in i n ∧ P := by
  intro h
  rw [Bool.and_eq_true] at h
  refine ⟨?_, f h.2⟩
  have h1 := h.1
  unfold cz_in at h1
  by_cases c : i < 0
  · rw [if_pos c] at h1
    exact absurd h1 (by decide)
  · rw [if_neg c] at h1
    have h2 := of_decide_eq_true h1
    intro z
    rcases z with z | z
    · exact c z
    · omega
theorem cc_nar {x : Int32} {b : Bool} {P : Prop} (f : b = true → P) : (cz_nar x && b) = true → narrow .boolean (.int x) = .int x ∧ P := by
  intro h
  rw [Bool.and_eq_true] at h
  refine ⟨?_, f h.2⟩
  have h1 := h.1
  unfold cz_nar at h1
  by_cases c : x = 0
  · rw [c]
    rfl
  · rw [if_neg c] at h1
    rw [of_decide_eq_true h1]
    rfl
theorem cc_nm {e : Int32} {P' : Int32 → Bool} {P : Int32 → Prop} (f : ∀ y, P' y = true → P y) : cz_f e P' = true → ∀ y, y = e → P y := by
  intro h y ey
  rw [cz_f_eq] at h
  rw [ey]
  exact f e h
theorem cc_nu {a : Nat → Int32} {j : Nat} {x : Int32} {P' : (Nat → Int32) → Bool} {P : (Nat → Int32) → Prop} (f : ∀ y, P' y = true → P y) : cz_u a j x P' = true → ∀ y, y = upd a j x → P y := by
  intro h y ey
  rw [cz_u_eq] at h
  rw [ey]
  exact f _ h
theorem cc_ex {W : Nat → Prop} {b : Bool} (k : Nat) (f : b = true → W k) : b = true → ∃ fu, W fu := fun h => ⟨k, f h⟩
end
section
/-! printed by gen.py: the class -/
def cz_enter_81 (post : St2 → Bool) (J54 : Int32 → (Nat → Int32) → (Nat → Int32) → (Nat → Int32) → (Nat → Int32) → (Nat → Int32) → (Nat → Int32) → Bool) (x1 : Int32) (x4 : Int32) (x5 : Int32) (f0_count : Int32) (a1 : Nat → Int32) (a2 : Nat → Int32) (a3 : Nat → Int32) (a4 : Nat → Int32) (a5 : Nat → Int32) (a6 : Nat → Int32) : Bool := (cz_in f0_count 8 && (cz_in x5 8 && (cz_in f0_count 8 && cz_u a5 f0_count.toNatClampNeg ((a5 f0_count.toNatClampNeg) ||| (((1 : Int32) <<< (x5 &&& 31)) ||| (a5 x5.toNatClampNeg))) (fun a5_18 => cz_f (x5 + 1) (fun x5_19 => J54 x5_19 a1 a2 a3 a4 a5_18 a6)))))
theorem cc_enter_81 {post : St2 → Prop} {bpost : St2 → Bool} {J54 : Int32 → (Nat → Int32) → (Nat → Int32) → (Nat → Int32) → (Nat → Int32) → (Nat → Int32) → (Nat → Int32) → Prop} {bJ54 : Int32 → (Nat → Int32) → (Nat → Int32) → (Nat → Int32) → (Nat → Int32) → (Nat → Int32) → (Nat → Int32) → Bool} (hpost : ∀ v0, bpost v0 = true → post v0) (hJ54 : ∀ v0 v1 v2 v3 v4 v5 v6, bJ54 v0 v1 v2 v3 v4 v5 v6 = true → J54 v0 v1 v2 v3 v4 v5 v6) {x1 : Int32} {x4 : Int32} {x5 : Int32} {f0_count : Int32} {a1 : Nat → Int32} {a2 : Nat → Int32} {a3 : Nat → Int32} {a4 : Nat → Int32} {a5 : Nat → Int32} {a6 : Nat → Int32} : cz_enter_81 bpost bJ54 x1 x4 x5 f0_count a1 a2 a3 a4 a5 a6 = true → wX_enter_81 post J54 x1 x4 x5 f0_count a1 a2 a3 a4 a5 a6 := by
  refine cc_in ?_
  refine cc_in ?_
  refine cc_in ?_
  refine cc_nu (fun a5_18 => ?_)
  refine cc_nm (fun x5_19 => ?_)
  exact hJ54 _ _ _ _ _ _ _
def cz_enter_54 (post : St2 → Bool) (x1 : Int32) (x4 : Int32) (f0_count : Int32) : Nat → Int32 → (Nat → Int32) → (Nat → Int32) → (Nat → Int32) → (Nat → Int32) → (Nat → Int32) → (Nat → Int32) → Bool
  | 0 => fun _ _ _ _ _ _ _ => false
  | n + 1 => fun x5 a1 a2 a3 a4 a5 a6 => (if f0_count ≤ x5 then cz_f (f0_count + 1) (fun f_12 => post (f_12, a1, a2, a3, a4, a5, a6)) else (cz_in x5 8 && (if (a1 x5.toNatClampNeg) = x1 then cz_enter_81 post (cz_enter_54 post x1 x4 f0_count n) x1 x4 x5 f0_count a1 a2 a3 a4 a5 a6 else (if x5 = x4 then cz_enter_81 post (cz_enter_54 post x1 x4 f0_count n) x1 x4 x5 f0_count a1 a2 a3 a4 a5 a6 else cz_f (x5 + 1) (fun x5_21 => cz_enter_54 post x1 x4 f0_count n x5_21 a1 a2 a3 a4 a5 a6)))))
theorem cc_enter_54_i {post : St2 → Prop} {bpost : St2 → Bool} (hpost : ∀ v0, bpost v0 = true → post v0) {x1 : Int32} {x4 : Int32} {f0_count : Int32} (n : Nat) : ∀ (x5 : Int32) (a1 : (Nat → Int32)) (a2 : (Nat → Int32)) (a3 : (Nat → Int32)) (a4 : (Nat → Int32)) (a5 : (Nat → Int32)) (a6 : (Nat → Int32)), cz_enter_54 bpost x1 x4 f0_count n x5 a1 a2 a3 a4 a5 a6 = true → wX_enter_54 post x1 x4 f0_count n x5 a1 a2 a3 a4 a5 a6 := by
  induction n with
  | zero => exact fun _ _ _ _ _ _ _ z => (Bool.false_ne_true z).elim
  | succ n ih =>
    intro x5 a1 a2 a3 a4 a5 a6
    refine cc_if ?_ ?_
    · refine cc_nm (fun f_12 => ?_)
      exact hpost _
    · refine cc_in ?_
      refine cc_if ?_ ?_
      · exact cc_enter_81 hpost ih
      · refine cc_if ?_ ?_
        · exact cc_enter_81 hpost ih
        · refine cc_nm (fun x5_21 => ?_)
          exact ih _ _ _ _ _ _ _
theorem cc_enter_54 {post : St2 → Prop} {bpost : St2 → Bool} (hpost : ∀ v0, bpost v0 = true → post v0) {x1 : Int32} {x4 : Int32} {f0_count : Int32} {n : Nat} {x5 : Int32} {a1 : (Nat → Int32)} {a2 : (Nat → Int32)} {a3 : (Nat → Int32)} {a4 : (Nat → Int32)} {a5 : (Nat → Int32)} {a6 : (Nat → Int32)} : cz_enter_54 bpost x1 x4 f0_count n x5 a1 a2 a3 a4 a5 a6 = true → wX_enter_54 post x1 x4 f0_count n x5 a1 a2 a3 a4 a5 a6 := cc_enter_54_i hpost n x5 a1 a2 a3 a4 a5 a6
def cz_p_enter (post : St2 → Bool) (u : St2) (p0 : Int32) (p1 : Int32) (p2 : Int32) (p3 : Int32) : Bool := match u with
  | (f0_count, a1, a2, a3, a4, a5, a6) => (cz_in f0_count 8 && cz_u a1 f0_count.toNatClampNeg p0 (fun a1_2 => (cz_in f0_count 8 && cz_u a2 f0_count.toNatClampNeg p1 (fun a2_4 => (cz_in f0_count 8 && cz_u a3 f0_count.toNatClampNeg (vp_nar .boolean p2) (fun a3_6 => (cz_in f0_count 8 && cz_u a4 f0_count.toNatClampNeg p3 (fun a4_8 => (cz_in f0_count 8 && cz_u a5 f0_count.toNatClampNeg 0 (fun a5_10 => cz_enter_54 post p0 p3 f0_count 12 0 a1_2 a2_4 a3_6 a4_8 a5_10 a6))))))))))
theorem cc_p_enter {post : St2 → Prop} {bpost : St2 → Bool} (hpost : ∀ v0, bpost v0 = true → post v0) {u : St2} {p0 : Int32} {p1 : Int32} {p2 : Int32} {p3 : Int32} : cz_p_enter bpost u p0 p1 p2 p3 = true → wpX_enter post u p0 p1 p2 p3 := by
  rcases u with ⟨f0_count, a1, a2, a3, a4, a5, a6⟩
  refine cc_in ?_
  refine cc_nu (fun a1_2 => ?_)
  refine cc_in ?_
  refine cc_nu (fun a2_4 => ?_)
  refine cc_in ?_
  refine cc_nu (fun a3_6 => ?_)
  refine cc_in ?_
  refine cc_nu (fun a4_8 => ?_)
  refine cc_in ?_
  refine cc_nu (fun a5_10 => ?_)
  refine cc_ex 12 ?_
  exact cc_enter_54 hpost
def cz_p_write (post : Int32 → St2 → Bool) (u : St2) (p0 : Int32) (p1 : Int32) : Bool := match u with
  | (f0_count, a1, a2, a3, a4, a5, a6) => (if p0 < 0 then post (-1) (f0_count, a1, a2, a3, a4, a5, a6) else (if 2 < p0 then post (-1) (f0_count, a1, a2, a3, a4, a5, a6) else (if p1 < 0 then post (-1) (f0_count, a1, a2, a3, a4, a5, a6) else (if 1 < p1 then post (-1) (f0_count, a1, a2, a3, a4, a5, a6) else (if f0_count < 7 then cz_p_enter (fun u => match u with | (f0_count_7, am341_10, am342_13, am343_16, am344_19, am345_22, am346_25) => post (f0_count_7 - 1) (f0_count_7, am341_10, am342_13, am343_16, am344_19, am345_22, am346_25)) (f0_count, a1, a2, a3, a4, a5, a6) p0 p1 1 (-1) else post (-1) (f0_count, a1, a2, a3, a4, a5, a6))))))
theorem cc_p_write {post : Int32 → St2 → Prop} {bpost : Int32 → St2 → Bool} (hpost : ∀ v0 v1, bpost v0 v1 = true → post v0 v1) {u : St2} {p0 : Int32} {p1 : Int32} : cz_p_write bpost u p0 p1 = true → wpX_write post u p0 p1 := by
  rcases u with ⟨f0_count, a1, a2, a3, a4, a5, a6⟩
  refine cc_if ?_ ?_
  · exact hpost _ _
  · refine cc_if ?_ ?_
    · exact hpost _ _
    · refine cc_if ?_ ?_
      · exact hpost _ _
      · refine cc_if ?_ ?_
        · exact hpost _ _
        · refine cc_if ?_ ?_
          · refine cc_p_enter ?_
            · intro u
              rcases u with ⟨f0_count_7, am341_10, am342_13, am343_16, am344_19, am345_22, am346_25⟩
              exact hpost _ _
          · exact hpost _ _
def cz_p_isSource (post : Int32 → Bool) (u : St2) (p0 : Int32) (p1 : Int32) : Bool := match u with
  | (f0_count, a1, a2, a3, a4, a5, a6) => (if p0 = (-1) then post 1 else (if p0 < 0 then post 0 else (if f0_count ≤ p0 then post 0 else (cz_in p0 8 && (if (a3 p0.toNatClampNeg) = 0 then post 0 else (cz_in p0 8 && (if (a2 p0.toNatClampNeg) = p1 then post 1 else post 0)))))))
theorem cc_p_isSource {post : Int32 → Prop} {bpost : Int32 → Bool} (hpost : ∀ v0, bpost v0 = true → post v0) {u : St2} {p0 : Int32} {p1 : Int32} : cz_p_isSource bpost u p0 p1 = true → wpX_isSource post u p0 p1 := by
  rcases u with ⟨f0_count, a1, a2, a3, a4, a5, a6⟩
  refine cc_if ?_ ?_
  · exact hpost _
  · refine cc_if ?_ ?_
    · exact hpost _
    · refine cc_if ?_ ?_
      · exact hpost _
      · refine cc_in ?_
        refine cc_if ?_ ?_
        · exact hpost _
        · refine cc_in ?_
          refine cc_if ?_ ?_
          · exact hpost _
          · exact hpost _
def cz_p_read (post : Int32 → St2 → Bool) (u : St2) (p0 : Int32) (p1 : Int32) (p2 : Int32) : Bool := match u with
  | (f0_count, a1, a2, a3, a4, a5, a6) => (if p0 < 0 then post (-1) (f0_count, a1, a2, a3, a4, a5, a6) else (if 2 < p0 then post (-1) (f0_count, a1, a2, a3, a4, a5, a6) else (if p1 < 0 then post (-1) (f0_count, a1, a2, a3, a4, a5, a6) else (if 1 < p1 then post (-1) (f0_count, a1, a2, a3, a4, a5, a6) else (if 7 ≤ f0_count then post (-1) (f0_count, a1, a2, a3, a4, a5, a6) else cz_p_isSource (fun r_6 => (if r_6 = 0 then post (-1) (f0_count, a1, a2, a3, a4, a5, a6) else cz_p_enter (fun u => match u with | (f0_count_9, am431_12, am432_15, am433_18, am434_21, am435_24, am436_27) => post (f0_count_9 - 1) (f0_count_9, am431_12, am432_15, am433_18, am434_21, am435_24, am436_27)) (f0_count, a1, a2, a3, a4, a5, a6) p0 p1 0 p2)) (f0_count, a1, a2, a3, a4, a5, a6) p2 p1)))))
theorem cc_p_read {post : Int32 → St2 → Prop} {bpost : Int32 → St2 → Bool} (hpost : ∀ v0 v1, bpost v0 v1 = true → post v0 v1) {u : St2} {p0 : Int32} {p1 : Int32} {p2 : Int32} : cz_p_read bpost u p0 p1 p2 = true → wpX_read post u p0 p1 p2 := by
  rcases u with ⟨f0_count, a1, a2, a3, a4, a5, a6⟩
  refine cc_if ?_ ?_
  · exact hpost _ _
  · refine cc_if ?_ ?_
    · exact hpost _ _
    · refine cc_if ?_ ?_
      · exact hpost _ _
      · refine cc_if ?_ ?_
        · exact hpost _ _
        · refine cc_if ?_ ?_
          · exact hpost _ _
          · refine cc_p_isSource ?_
            · intro r_6
              refine cc_if ?_ ?_
              · exact hpost _ _
              · refine cc_p_enter ?_
                · intro u
                  rcases u with ⟨f0_count_9, am431_12, am432_15, am433_18, am434_21, am435_24, am436_27⟩
                  exact hpost _ _
def cz_p_isHeld (post : Int32 → Bool) (u : St2) (p0 : Int32) : Bool := match u with
  | (f0_count, a1, a2, a3, a4, a5, a6) => (if p0 < 0 then post 0 else (if f0_count ≤ p0 then post 0 else post 1))
theorem cc_p_isHeld {post : Int32 → Prop} {bpost : Int32 → Bool} (hpost : ∀ v0, bpost v0 = true → post v0) {u : St2} {p0 : Int32} : cz_p_isHeld bpost u p0 = true → wpX_isHeld post u p0 := by
  rcases u with ⟨f0_count, a1, a2, a3, a4, a5, a6⟩
  refine cc_if ?_ ?_
  · exact hpost _
  · refine cc_if ?_ ?_
    · exact hpost _
    · exact hpost _
def cz_p_before (post : Int32 → Bool) (u : St2) (p0 : Int32) (p1 : Int32) : Bool := match u with
  | (f0_count, a1, a2, a3, a4, a5, a6) => cz_p_isHeld (fun r_1 => (if r_1 = 0 then post (-1) else cz_p_isHeld (fun r_3 => (if r_3 = 0 then post (-1) else (cz_in p1 8 && post ((((a5 p1.toNatClampNeg).toUInt32 >>> (p0.toUInt32 &&& Int32.toUInt32 31)).toInt32) &&& 1)))) (f0_count, a1, a2, a3, a4, a5, a6) p1)) (f0_count, a1, a2, a3, a4, a5, a6) p0
theorem cc_p_before {post : Int32 → Prop} {bpost : Int32 → Bool} (hpost : ∀ v0, bpost v0 = true → post v0) {u : St2} {p0 : Int32} {p1 : Int32} : cz_p_before bpost u p0 p1 = true → wpX_before post u p0 p1 := by
  rcases u with ⟨f0_count, a1, a2, a3, a4, a5, a6⟩
  unfold cz_p_before wpX_before
  dsimp only
  refine cc_p_isHeld ?_
  · intro r_1
    refine cc_if ?_ ?_
    · exact hpost _
    · refine cc_p_isHeld ?_
      · intro r_3
        refine cc_if ?_ ?_
        · exact hpost _
        · refine cc_in ?_
          exact hpost _
def cz_isWeak_63 (post : Int32 → Bool) (J13 : Int32 → Bool) (x1 : Int32) (x2 : Int32) (z0 : Int32) (f0_count : Int32) (a1 : Nat → Int32) (a2 : Nat → Int32) (a3 : Nat → Int32) (a4 : Nat → Int32) (a5 : Nat → Int32) (a6 : Nat → Int32) : Bool := (if z0 = 0 then cz_f (x2 + 1) (fun x2_7 => J13 x2_7) else (cz_in x1 8 && (if (a4 x1.toNatClampNeg) < 0 then post 0 else (cz_in x2 8 && (cz_in x1 8 && (if ((((a5 x2.toNatClampNeg).toUInt32 >>> ((a4 x1.toNatClampNeg).toUInt32 &&& Int32.toUInt32 31)).toInt32) &&& 1) = 0 then cz_f (x2 + 1) (fun x2_13 => J13 x2_13) else post 0))))))
theorem cc_isWeak_63 {post : Int32 → Prop} {bpost : Int32 → Bool} {J13 : Int32 → Prop} {bJ13 : Int32 → Bool} (hpost : ∀ v0, bpost v0 = true → post v0) (hJ13 : ∀ v0, bJ13 v0 = true → J13 v0) {x1 : Int32} {x2 : Int32} {z0 : Int32} {f0_count : Int32} {a1 : Nat → Int32} {a2 : Nat → Int32} {a3 : Nat → Int32} {a4 : Nat → Int32} {a5 : Nat → Int32} {a6 : Nat → Int32} : cz_isWeak_63 bpost bJ13 x1 x2 z0 f0_count a1 a2 a3 a4 a5 a6 = true → wX_isWeak_63 post J13 x1 x2 z0 f0_count a1 a2 a3 a4 a5 a6 := by
  refine cc_if ?_ ?_
  · refine cc_nm (fun x2_7 => ?_)
    exact hJ13 _
  · refine cc_in ?_
    refine cc_if ?_ ?_
    · exact hpost _
    · refine cc_in ?_
      refine cc_in ?_
      refine cc_if ?_ ?_
      · refine cc_nm (fun x2_13 => ?_)
        exact hJ13 _
      · exact hpost _
def cz_isWeak_62 (post : Int32 → Bool) (J13 : Int32 → Bool) (x1 : Int32) (x2 : Int32) (f0_count : Int32) (a1 : Nat → Int32) (a2 : Nat → Int32) (a3 : Nat → Int32) (a4 : Nat → Int32) (a5 : Nat → Int32) (a6 : Nat → Int32) : Bool := cz_isWeak_63 post J13 x1 x2 0 f0_count a1 a2 a3 a4 a5 a6
theorem cc_isWeak_62 {post : Int32 → Prop} {bpost : Int32 → Bool} {J13 : Int32 → Prop} {bJ13 : Int32 → Bool} (hpost : ∀ v0, bpost v0 = true → post v0) (hJ13 : ∀ v0, bJ13 v0 = true → J13 v0) {x1 : Int32} {x2 : Int32} {f0_count : Int32} {a1 : Nat → Int32} {a2 : Nat → Int32} {a3 : Nat → Int32} {a4 : Nat → Int32} {a5 : Nat → Int32} {a6 : Nat → Int32} : cz_isWeak_62 bpost bJ13 x1 x2 f0_count a1 a2 a3 a4 a5 a6 = true → wX_isWeak_62 post J13 x1 x2 f0_count a1 a2 a3 a4 a5 a6 := by
  exact cc_isWeak_63 hpost hJ13
def cz_isWeak_13 (post : Int32 → Bool) (x1 : Int32) (f0_count : Int32) (a1 : Nat → Int32) (a2 : Nat → Int32) (a3 : Nat → Int32) (a4 : Nat → Int32) (a5 : Nat → Int32) (a6 : Nat → Int32) : Nat → Int32 → Bool
  | 0 => fun _ => false
  | n + 1 => fun x2 => (if f0_count ≤ x2 then post 1 else (cz_in x2 8 && (if (a3 x2.toNatClampNeg) = 0 then cz_isWeak_62 post (cz_isWeak_13 post x1 f0_count a1 a2 a3 a4 a5 a6 n) x1 x2 f0_count a1 a2 a3 a4 a5 a6 else (cz_in x2 8 && (cz_in x1 8 && (if (a2 x2.toNatClampNeg) = (a2 x1.toNatClampNeg) then (cz_in x1 8 && (if ((((a5 x1.toNatClampNeg).toUInt32 >>> (x2.toUInt32 &&& Int32.toUInt32 31)).toInt32) &&& 1) = 0 then cz_isWeak_62 post (cz_isWeak_13 post x1 f0_count a1 a2 a3 a4 a5 a6 n) x1 x2 f0_count a1 a2 a3 a4 a5 a6 else cz_isWeak_63 post (cz_isWeak_13 post x1 f0_count a1 a2 a3 a4 a5 a6 n) x1 x2 1 f0_count a1 a2 a3 a4 a5 a6)) else cz_isWeak_62 post (cz_isWeak_13 post x1 f0_count a1 a2 a3 a4 a5 a6 n) x1 x2 f0_count a1 a2 a3 a4 a5 a6))))))
theorem cc_isWeak_13_i {post : Int32 → Prop} {bpost : Int32 → Bool} (hpost : ∀ v0, bpost v0 = true → post v0) {x1 : Int32} {f0_count : Int32} {a1 : Nat → Int32} {a2 : Nat → Int32} {a3 : Nat → Int32} {a4 : Nat → Int32} {a5 : Nat → Int32} {a6 : Nat → Int32} (n : Nat) : ∀ (x2 : Int32), cz_isWeak_13 bpost x1 f0_count a1 a2 a3 a4 a5 a6 n x2 = true → wX_isWeak_13 post x1 f0_count a1 a2 a3 a4 a5 a6 n x2 := by
  induction n with
  | zero => exact fun _ z => (Bool.false_ne_true z).elim
  | succ n ih =>
    intro x2
    refine cc_if ?_ ?_
    · exact hpost _
    · refine cc_in ?_
      refine cc_if ?_ ?_
      · exact cc_isWeak_62 hpost ih
      · refine cc_in ?_
        refine cc_in ?_
        refine cc_if ?_ ?_
        · refine cc_in ?_
          refine cc_if ?_ ?_
          · exact cc_isWeak_62 hpost ih
          · exact cc_isWeak_63 hpost ih
        · exact cc_isWeak_62 hpost ih
theorem cc_isWeak_13 {post : Int32 → Prop} {bpost : Int32 → Bool} (hpost : ∀ v0, bpost v0 = true → post v0) {x1 : Int32} {f0_count : Int32} {a1 : Nat → Int32} {a2 : Nat → Int32} {a3 : Nat → Int32} {a4 : Nat → Int32} {a5 : Nat → Int32} {a6 : Nat → Int32} {n : Nat} {x2 : Int32} : cz_isWeak_13 bpost x1 f0_count a1 a2 a3 a4 a5 a6 n x2 = true → wX_isWeak_13 post x1 f0_count a1 a2 a3 a4 a5 a6 n x2 := cc_isWeak_13_i hpost n x2
def cz_p_isWeak (post : Int32 → Bool) (u : St2) (p0 : Int32) : Bool := match u with
  | (f0_count, a1, a2, a3, a4, a5, a6) => (cz_in p0 8 && (if (a3 p0.toNatClampNeg) = 0 then cz_isWeak_13 post p0 f0_count a1 a2 a3 a4 a5 a6 12 0 else post 1))
theorem cc_p_isWeak {post : Int32 → Prop} {bpost : Int32 → Bool} (hpost : ∀ v0, bpost v0 = true → post v0) {u : St2} {p0 : Int32} : cz_p_isWeak bpost u p0 = true → wpX_isWeak post u p0 := by
  rcases u with ⟨f0_count, a1, a2, a3, a4, a5, a6⟩
  refine cc_in ?_
  refine cc_if ?_ ?_
  · refine cc_ex 12 ?_
    exact cc_isWeak_13 hpost
  · exact hpost _
def cz_p_weak (post : Int32 → Bool) (u : St2) (p0 : Int32) : Bool := match u with
  | (f0_count, a1, a2, a3, a4, a5, a6) => cz_p_isHeld (fun r_1 => (if r_1 = 0 then post (-1) else cz_p_isWeak (fun r_3 => (if r_3 = 0 then post 0 else post 1)) (f0_count, a1, a2, a3, a4, a5, a6) p0)) (f0_count, a1, a2, a3, a4, a5, a6) p0
theorem cc_p_weak {post : Int32 → Prop} {bpost : Int32 → Bool} (hpost : ∀ v0, bpost v0 = true → post v0) {u : St2} {p0 : Int32} : cz_p_weak bpost u p0 = true → wpX_weak post u p0 := by
  rcases u with ⟨f0_count, a1, a2, a3, a4, a5, a6⟩
  unfold cz_p_weak wpX_weak
  dsimp only
  refine cc_p_isHeld ?_
  · intro r_1
    refine cc_if ?_ ?_
    · exact hpost _
    · refine cc_p_isWeak ?_
      · intro r_3
        refine cc_if ?_ ?_
        · exact hpost _
        · exact hpost _
def cz_hasRing_2 (post : Int32 → Bool) (f0_count : Int32) (a1 : Nat → Int32) (a2 : Nat → Int32) (a3 : Nat → Int32) (a4 : Nat → Int32) (a5 : Nat → Int32) (a6 : Nat → Int32) : Nat → Int32 → Bool
  | 0 => fun _ => false
  | n + 1 => fun x1 => (if f0_count ≤ x1 then post 0 else (cz_in x1 8 && (if ((((a6 x1.toNatClampNeg).toUInt32 >>> (x1.toUInt32 &&& Int32.toUInt32 31)).toInt32) &&& 1) = 0 then cz_f (x1 + 1) (fun x1_4 => cz_hasRing_2 post f0_count a1 a2 a3 a4 a5 a6 n x1_4) else post 1)))
theorem cc_hasRing_2_i {post : Int32 → Prop} {bpost : Int32 → Bool} (hpost : ∀ v0, bpost v0 = true → post v0) {f0_count : Int32} {a1 : Nat → Int32} {a2 : Nat → Int32} {a3 : Nat → Int32} {a4 : Nat → Int32} {a5 : Nat → Int32} {a6 : Nat → Int32} (n : Nat) : ∀ (x1 : Int32), cz_hasRing_2 bpost f0_count a1 a2 a3 a4 a5 a6 n x1 = true → wX_hasRing_2 post f0_count a1 a2 a3 a4 a5 a6 n x1 := by
  induction n with
  | zero => exact fun _ z => (Bool.false_ne_true z).elim
  | succ n ih =>
    intro x1
    refine cc_if ?_ ?_
    · exact hpost _
    · refine cc_in ?_
      refine cc_if ?_ ?_
      · refine cc_nm (fun x1_4 => ?_)
        exact ih _
      · exact hpost _
theorem cc_hasRing_2 {post : Int32 → Prop} {bpost : Int32 → Bool} (hpost : ∀ v0, bpost v0 = true → post v0) {f0_count : Int32} {a1 : Nat → Int32} {a2 : Nat → Int32} {a3 : Nat → Int32} {a4 : Nat → Int32} {a5 : Nat → Int32} {a6 : Nat → Int32} {n : Nat} {x1 : Int32} : cz_hasRing_2 bpost f0_count a1 a2 a3 a4 a5 a6 n x1 = true → wX_hasRing_2 post f0_count a1 a2 a3 a4 a5 a6 n x1 := cc_hasRing_2_i hpost n x1
def cz_p_hasRing (post : Int32 → Bool) (u : St2) : Bool := match u with
  | (f0_count, a1, a2, a3, a4, a5, a6) => cz_hasRing_2 post f0_count a1 a2 a3 a4 a5 a6 12 0
theorem cc_p_hasRing {post : Int32 → Prop} {bpost : Int32 → Bool} (hpost : ∀ v0, bpost v0 = true → post v0) {u : St2} : cz_p_hasRing bpost u = true → wpX_hasRing post u := by
  rcases u with ⟨f0_count, a1, a2, a3, a4, a5, a6⟩
  refine cc_ex 12 ?_
  exact cc_hasRing_2 hpost
def cz_close_15 (post : Int32 → St2 → Bool) (J4 : Int32 → Int32 → (Nat → Int32) → (Nat → Int32) → (Nat → Int32) → (Nat → Int32) → (Nat → Int32) → (Nat → Int32) → Bool) (x1 : Int32) (x3 : Int32) (f0_count : Int32) : Nat → Int32 → Int32 → (Nat → Int32) → (Nat → Int32) → (Nat → Int32) → (Nat → Int32) → (Nat → Int32) → (Nat → Int32) → Bool
  | 0 => fun _ _ _ _ _ _ _ _ => false
  | n + 1 => fun x2 x4 a1 a2 a3 a4 a5 a6 => (if f0_count ≤ x4 then cz_f (x3 + 1) (fun x3_4 => J4 x2 x3_4 a1 a2 a3 a4 a5 a6) else (if (((x1.toUInt32 >>> (x3.toUInt32 &&& Int32.toUInt32 31)).toInt32) &&& 1) = 0 then cz_f (x4 + 1) (fun x4_6 => cz_close_15 post J4 x1 x3 f0_count n x2 x4_6 a1 a2 a3 a4 a5 a6) else (cz_in x3 8 && (if ((((a6 x3.toNatClampNeg).toUInt32 >>> (x4.toUInt32 &&& Int32.toUInt32 31)).toInt32) &&& 1) = 0 then cz_f (x4 + 1) (fun x4_9 => cz_close_15 post J4 x1 x3 f0_count n x2 x4_9 a1 a2 a3 a4 a5 a6) else (cz_in x4 8 && (cz_in x3 8 && (if ((a6 x4.toNatClampNeg) &&& ((a6 x3.toNatClampNeg) ^^^ (-1))) = 0 then cz_f (x4 + 1) (fun x4_13 => cz_close_15 post J4 x1 x3 f0_count n x2 x4_13 a1 a2 a3 a4 a5 a6) else (cz_in x3 8 && (cz_in x4 8 && (cz_in x3 8 && cz_u a6 x3.toNatClampNeg ((a6 x3.toNatClampNeg) ||| (a6 x4.toNatClampNeg)) (fun a6_17 => cz_f (x4 + 1) (fun x4_18 => cz_close_15 post J4 x1 x3 f0_count n 1 x4_18 a1 a2 a3 a4 a5 a6_17))))))))))))
theorem cc_close_15_i {post : Int32 → St2 → Prop} {bpost : Int32 → St2 → Bool} {J4 : Int32 → Int32 → (Nat → Int32) → (Nat → Int32) → (Nat → Int32) → (Nat → Int32) → (Nat → Int32) → (Nat → Int32) → Prop} {bJ4 : Int32 → Int32 → (Nat → Int32) → (Nat → Int32) → (Nat → Int32) → (Nat → Int32) → (Nat → Int32) → (Nat → Int32) → Bool} (hpost : ∀ v0 v1, bpost v0 v1 = true → post v0 v1) (hJ4 : ∀ v0 v1 v2 v3 v4 v5 v6 v7, bJ4 v0 v1 v2 v3 v4 v5 v6 v7 = true → J4 v0 v1 v2 v3 v4 v5 v6 v7) {x1 : Int32} {x3 : Int32} {f0_count : Int32} (n : Nat) : ∀ (x2 : Int32) (x4 : Int32) (a1 : (Nat → Int32)) (a2 : (Nat → Int32)) (a3 : (Nat → Int32)) (a4 : (Nat → Int32)) (a5 : (Nat → Int32)) (a6 : (Nat → Int32)), cz_close_15 bpost bJ4 x1 x3 f0_count n x2 x4 a1 a2 a3 a4 a5 a6 = true → wX_close_15 post J4 x1 x3 f0_count n x2 x4 a1 a2 a3 a4 a5 a6 := by
  induction n with
  | zero => exact fun _ _ _ _ _ _ _ _ z => (Bool.false_ne_true z).elim
  | succ n ih =>
    intro x2 x4 a1 a2 a3 a4 a5 a6
    refine cc_if ?_ ?_
    · refine cc_nm (fun x3_4 => ?_)
      exact hJ4 _ _ _ _ _ _ _ _
    · refine cc_if ?_ ?_
      · refine cc_nm (fun x4_6 => ?_)
        exact ih _ _ _ _ _ _ _ _
      · refine cc_in ?_
        refine cc_if ?_ ?_
        · refine cc_nm (fun x4_9 => ?_)
          exact ih _ _ _ _ _ _ _ _
        · refine cc_in ?_
          refine cc_in ?_
          refine cc_if ?_ ?_
          · refine cc_nm (fun x4_13 => ?_)
            exact ih _ _ _ _ _ _ _ _
          · refine cc_in ?_
            refine cc_in ?_
            refine cc_in ?_
            refine cc_nu (fun a6_17 => ?_)
            refine cc_nm (fun x4_18 => ?_)
            exact ih _ _ _ _ _ _ _ _
theorem cc_close_15 {post : Int32 → St2 → Prop} {bpost : Int32 → St2 → Bool} {J4 : Int32 → Int32 → (Nat → Int32) → (Nat → Int32) → (Nat → Int32) → (Nat → Int32) → (Nat → Int32) → (Nat → Int32) → Prop} {bJ4 : Int32 → Int32 → (Nat → Int32) → (Nat → Int32) → (Nat → Int32) → (Nat → Int32) → (Nat → Int32) → (Nat → Int32) → Bool} (hpost : ∀ v0 v1, bpost v0 v1 = true → post v0 v1) (hJ4 : ∀ v0 v1 v2 v3 v4 v5 v6 v7, bJ4 v0 v1 v2 v3 v4 v5 v6 v7 = true → J4 v0 v1 v2 v3 v4 v5 v6 v7) {x1 : Int32} {x3 : Int32} {f0_count : Int32} {n : Nat} {x2 : Int32} {x4 : Int32} {a1 : (Nat → Int32)} {a2 : (Nat → Int32)} {a3 : (Nat → Int32)} {a4 : (Nat → Int32)} {a5 : (Nat → Int32)} {a6 : (Nat → Int32)} : cz_close_15 bpost bJ4 x1 x3 f0_count n x2 x4 a1 a2 a3 a4 a5 a6 = true → wX_close_15 post J4 x1 x3 f0_count n x2 x4 a1 a2 a3 a4 a5 a6 := cc_close_15_i hpost hJ4 n x2 x4 a1 a2 a3 a4 a5 a6
def cz_close_4 (post : Int32 → St2 → Bool) (x1 : Int32) (f0_count : Int32) : Nat → Int32 → Int32 → (Nat → Int32) → (Nat → Int32) → (Nat → Int32) → (Nat → Int32) → (Nat → Int32) → (Nat → Int32) → Bool
  | 0 => fun _ _ _ _ _ _ _ _ => false
  | n + 1 => fun x2 x3 a1 a2 a3 a4 a5 a6 => (if f0_count ≤ x3 then (cz_nar x2 && post x2 (f0_count, a1, a2, a3, a4, a5, a6)) else cz_close_15 post (cz_close_4 post x1 f0_count n) x1 x3 f0_count 12 x2 0 a1 a2 a3 a4 a5 a6)
theorem cc_close_4_i {post : Int32 → St2 → Prop} {bpost : Int32 → St2 → Bool} (hpost : ∀ v0 v1, bpost v0 v1 = true → post v0 v1) {x1 : Int32} {f0_count : Int32} (n : Nat) : ∀ (x2 : Int32) (x3 : Int32) (a1 : (Nat → Int32)) (a2 : (Nat → Int32)) (a3 : (Nat → Int32)) (a4 : (Nat → Int32)) (a5 : (Nat → Int32)) (a6 : (Nat → Int32)), cz_close_4 bpost x1 f0_count n x2 x3 a1 a2 a3 a4 a5 a6 = true → wX_close_4 post x1 f0_count n x2 x3 a1 a2 a3 a4 a5 a6 := by
  induction n with
  | zero => exact fun _ _ _ _ _ _ _ _ z => (Bool.false_ne_true z).elim
  | succ n ih =>
    intro x2 x3 a1 a2 a3 a4 a5 a6
    refine cc_if ?_ ?_
    · refine cc_nar ?_
      exact hpost _ _
    · refine cc_ex 12 ?_
      exact cc_close_15 hpost ih
theorem cc_close_4 {post : Int32 → St2 → Prop} {bpost : Int32 → St2 → Bool} (hpost : ∀ v0 v1, bpost v0 v1 = true → post v0 v1) {x1 : Int32} {f0_count : Int32} {n : Nat} {x2 : Int32} {x3 : Int32} {a1 : (Nat → Int32)} {a2 : (Nat → Int32)} {a3 : (Nat → Int32)} {a4 : (Nat → Int32)} {a5 : (Nat → Int32)} {a6 : (Nat → Int32)} : cz_close_4 bpost x1 f0_count n x2 x3 a1 a2 a3 a4 a5 a6 = true → wX_close_4 post x1 f0_count n x2 x3 a1 a2 a3 a4 a5 a6 := cc_close_4_i hpost n x2 x3 a1 a2 a3 a4 a5 a6
def cz_p_close (post : Int32 → St2 → Bool) (u : St2) (p0 : Int32) : Bool := match u with
  | (f0_count, a1, a2, a3, a4, a5, a6) => cz_close_4 post p0 f0_count 12 0 0 a1 a2 a3 a4 a5 a6
theorem cc_p_close {post : Int32 → St2 → Prop} {bpost : Int32 → St2 → Bool} (hpost : ∀ v0 v1, bpost v0 v1 = true → post v0 v1) {u : St2} {p0 : Int32} : cz_p_close bpost u p0 = true → wpX_close post u p0 := by
  rcases u with ⟨f0_count, a1, a2, a3, a4, a5, a6⟩
  refine cc_ex 12 ?_
  exact cc_close_4 hpost
def cz_converges_186 (post : Int32 → St2 → Bool) (f0_count : Int32) (a1 : Nat → Int32) (a2 : Nat → Int32) (a3 : Nat → Int32) (a4 : Nat → Int32) (a5 : Nat → Int32) (a6 : Nat → Int32) : Bool := cz_p_hasRing (fun r_4 => (if r_4 = 0 then post 1 (f0_count, a1, a2, a3, a4, a5, a6) else post 0 (f0_count, a1, a2, a3, a4, a5, a6))) (f0_count, a1, a2, a3, a4, a5, a6)
theorem cc_converges_186 {post : Int32 → St2 → Prop} {bpost : Int32 → St2 → Bool} (hpost : ∀ v0 v1, bpost v0 v1 = true → post v0 v1) {f0_count : Int32} {a1 : Nat → Int32} {a2 : Nat → Int32} {a3 : Nat → Int32} {a4 : Nat → Int32} {a5 : Nat → Int32} {a6 : Nat → Int32} : cz_converges_186 bpost f0_count a1 a2 a3 a4 a5 a6 = true → wX_converges_186 post f0_count a1 a2 a3 a4 a5 a6 := by
  refine cc_p_hasRing ?_
  · intro r_4
    refine cc_if ?_ ?_
    · exact hpost _ _
    · exact hpost _ _
def cz_converges_162 (post : Int32 → St2 → Bool) : Nat → Int32 → Int32 → Int32 → (Nat → Int32) → (Nat → Int32) → (Nat → Int32) → (Nat → Int32) → (Nat → Int32) → (Nat → Int32) → Bool
  | 0 => fun _ _ _ _ _ _ _ _ _ => false
  | n + 1 => fun x1 x2 f0_count a1 a2 a3 a4 a5 a6 => (if 60 ≤ x2 then cz_converges_186 post f0_count a1 a2 a3 a4 a5 a6 else (if x1 = 0 then cz_converges_186 post f0_count a1 a2 a3 a4 a5 a6 else cz_p_close (fun r_7 u => match u with | (f0_count_8, am1761_11, am1762_14, am1763_17, am1764_20, am1765_23, am1766_26) => cz_f (x2 + 1) (fun x2_27 => cz_converges_162 post n r_7 x2_27 f0_count_8 am1761_11 am1762_14 am1763_17 am1764_20 am1765_23 am1766_26)) (f0_count, a1, a2, a3, a4, a5, a6) 255))
theorem cc_converges_162_i {post : Int32 → St2 → Prop} {bpost : Int32 → St2 → Bool} (hpost : ∀ v0 v1, bpost v0 v1 = true → post v0 v1)  (n : Nat) : ∀ (x1 : Int32) (x2 : Int32) (f0_count : Int32) (a1 : (Nat → Int32)) (a2 : (Nat → Int32)) (a3 : (Nat → Int32)) (a4 : (Nat → Int32)) (a5 : (Nat → Int32)) (a6 : (Nat → Int32)), cz_converges_162 bpost n x1 x2 f0_count a1 a2 a3 a4 a5 a6 = true → wX_converges_162 post n x1 x2 f0_count a1 a2 a3 a4 a5 a6 := by
  induction n with
  | zero => exact fun _ _ _ _ _ _ _ _ _ z => (Bool.false_ne_true z).elim
  | succ n ih =>
    intro x1 x2 f0_count a1 a2 a3 a4 a5 a6
    refine cc_if ?_ ?_
    · exact cc_converges_186 hpost
    · refine cc_if ?_ ?_
      · exact cc_converges_186 hpost
      · refine cc_p_close ?_
        · intro r_7 u
          rcases u with ⟨f0_count_8, am1761_11, am1762_14, am1763_17, am1764_20, am1765_23, am1766_26⟩
          refine cc_nm (fun x2_27 => ?_)
          exact ih _ _ _ _ _ _ _ _ _
theorem cc_converges_162 {post : Int32 → St2 → Prop} {bpost : Int32 → St2 → Bool} (hpost : ∀ v0 v1, bpost v0 v1 = true → post v0 v1)  {n : Nat} {x1 : Int32} {x2 : Int32} {f0_count : Int32} {a1 : (Nat → Int32)} {a2 : (Nat → Int32)} {a3 : (Nat → Int32)} {a4 : (Nat → Int32)} {a5 : (Nat → Int32)} {a6 : (Nat → Int32)} : cz_converges_162 bpost n x1 x2 f0_count a1 a2 a3 a4 a5 a6 = true → wX_converges_162 post n x1 x2 f0_count a1 a2 a3 a4 a5 a6 := cc_converges_162_i hpost n x1 x2 f0_count a1 a2 a3 a4 a5 a6
def cz_converges_115 (post : Int32 → St2 → Bool) (J30 : Int32 → (Nat → Int32) → (Nat → Int32) → (Nat → Int32) → (Nat → Int32) → (Nat → Int32) → (Nat → Int32) → Bool) (J40 : Int32 → (Nat → Int32) → (Nat → Int32) → (Nat → Int32) → (Nat → Int32) → (Nat → Int32) → (Nat → Int32) → Bool) (x1 : Int32) (x2 : Int32) (x3 : Int32) (f0_count : Int32) (a1 : Nat → Int32) (a2 : Nat → Int32) (a3 : Nat → Int32) (a4 : Nat → Int32) (a5 : Nat → Int32) (a6 : Nat → Int32) : Bool := (if x3 = 0 then cz_f (x2 + 1) (fun x2_34 => J40 x2_34 a1 a2 a3 a4 a5 a6) else (cz_in x1 8 && (if x2 = (a4 x1.toNatClampNeg) then cz_f (x2 + 1) (fun x2_37 => J40 x2_37 a1 a2 a3 a4 a5 a6) else (cz_in x1 8 && (cz_in (a4 x1.toNatClampNeg) 8 && (cz_in (a4 x1.toNatClampNeg) 8 && cz_u a6 (a4 x1.toNatClampNeg).toNatClampNeg ((a6 (a4 x1.toNatClampNeg).toNatClampNeg) ||| ((1 : Int32) <<< (x2 &&& 31))) (fun a6_41 => cz_f (x2 + 1) (fun x2_42 => J40 x2_42 a1 a2 a3 a4 a5 a6_41))))))))
theorem cc_converges_115 {post : Int32 → St2 → Prop} {bpost : Int32 → St2 → Bool} {J30 : Int32 → (Nat → Int32) → (Nat → Int32) → (Nat → Int32) → (Nat → Int32) → (Nat → Int32) → (Nat → Int32) → Prop} {bJ30 : Int32 → (Nat → Int32) → (Nat → Int32) → (Nat → Int32) → (Nat → Int32) → (Nat → Int32) → (Nat → Int32) → Bool} {J40 : Int32 → (Nat → Int32) → (Nat → Int32) → (Nat → Int32) → (Nat → Int32) → (Nat → Int32) → (Nat → Int32) → Prop} {bJ40 : Int32 → (Nat → Int32) → (Nat → Int32) → (Nat → Int32) → (Nat → Int32) → (Nat → Int32) → (Nat → Int32) → Bool} (hpost : ∀ v0 v1, bpost v0 v1 = true → post v0 v1) (hJ30 : ∀ v0 v1 v2 v3 v4 v5 v6, bJ30 v0 v1 v2 v3 v4 v5 v6 = true → J30 v0 v1 v2 v3 v4 v5 v6) (hJ40 : ∀ v0 v1 v2 v3 v4 v5 v6, bJ40 v0 v1 v2 v3 v4 v5 v6 = true → J40 v0 v1 v2 v3 v4 v5 v6) {x1 : Int32} {x2 : Int32} {x3 : Int32} {f0_count : Int32} {a1 : Nat → Int32} {a2 : Nat → Int32} {a3 : Nat → Int32} {a4 : Nat → Int32} {a5 : Nat → Int32} {a6 : Nat → Int32} : cz_converges_115 bpost bJ30 bJ40 x1 x2 x3 f0_count a1 a2 a3 a4 a5 a6 = true → wX_converges_115 post J30 J40 x1 x2 x3 f0_count a1 a2 a3 a4 a5 a6 := by
  refine cc_if ?_ ?_
  · refine cc_nm (fun x2_34 => ?_)
    exact hJ40 _ _ _ _ _ _ _
  · refine cc_in ?_
    refine cc_if ?_ ?_
    · refine cc_nm (fun x2_37 => ?_)
      exact hJ40 _ _ _ _ _ _ _
    · refine cc_in ?_
      refine cc_in ?_
      refine cc_in ?_
      refine cc_nu (fun a6_41 => ?_)
      refine cc_nm (fun x2_42 => ?_)
      exact hJ40 _ _ _ _ _ _ _
def cz_converges_99 (post : Int32 → St2 → Bool) (J30 : Int32 → (Nat → Int32) → (Nat → Int32) → (Nat → Int32) → (Nat → Int32) → (Nat → Int32) → (Nat → Int32) → Bool) (J40 : Int32 → (Nat → Int32) → (Nat → Int32) → (Nat → Int32) → (Nat → Int32) → (Nat → Int32) → (Nat → Int32) → Bool) (x1 : Int32) (x2 : Int32) (z0 : Int32) (f0_count : Int32) (a1 : Nat → Int32) (a2 : Nat → Int32) (a3 : Nat → Int32) (a4 : Nat → Int32) (a5 : Nat → Int32) (a6 : Nat → Int32) : Bool := (if z0 = 0 then cz_converges_115 post J30 J40 x1 x2 z0 f0_count a1 a2 a3 a4 a5 a6 else (cz_in x1 8 && (if 0 ≤ (a4 x1.toNatClampNeg) then cz_converges_115 post J30 J40 x1 x2 z0 f0_count a1 a2 a3 a4 a5 a6 else post 0 (f0_count, a1, a2, a3, a4, a5, a6))))
theorem cc_converges_99 {post : Int32 → St2 → Prop} {bpost : Int32 → St2 → Bool} {J30 : Int32 → (Nat → Int32) → (Nat → Int32) → (Nat → Int32) → (Nat → Int32) → (Nat → Int32) → (Nat → Int32) → Prop} {bJ30 : Int32 → (Nat → Int32) → (Nat → Int32) → (Nat → Int32) → (Nat → Int32) → (Nat → Int32) → (Nat → Int32) → Bool} {J40 : Int32 → (Nat → Int32) → (Nat → Int32) → (Nat → Int32) → (Nat → Int32) → (Nat → Int32) → (Nat → Int32) → Prop} {bJ40 : Int32 → (Nat → Int32) → (Nat → Int32) → (Nat → Int32) → (Nat → Int32) → (Nat → Int32) → (Nat → Int32) → Bool} (hpost : ∀ v0 v1, bpost v0 v1 = true → post v0 v1) (hJ30 : ∀ v0 v1 v2 v3 v4 v5 v6, bJ30 v0 v1 v2 v3 v4 v5 v6 = true → J30 v0 v1 v2 v3 v4 v5 v6) (hJ40 : ∀ v0 v1 v2 v3 v4 v5 v6, bJ40 v0 v1 v2 v3 v4 v5 v6 = true → J40 v0 v1 v2 v3 v4 v5 v6) {x1 : Int32} {x2 : Int32} {z0 : Int32} {f0_count : Int32} {a1 : Nat → Int32} {a2 : Nat → Int32} {a3 : Nat → Int32} {a4 : Nat → Int32} {a5 : Nat → Int32} {a6 : Nat → Int32} : cz_converges_99 bpost bJ30 bJ40 x1 x2 z0 f0_count a1 a2 a3 a4 a5 a6 = true → wX_converges_99 post J30 J40 x1 x2 z0 f0_count a1 a2 a3 a4 a5 a6 := by
  refine cc_if ?_ ?_
  · exact cc_converges_115 hpost hJ30 hJ40
  · refine cc_in ?_
    refine cc_if ?_ ?_
    · exact cc_converges_115 hpost hJ30 hJ40
    · exact hpost _ _
def cz_converges_98 (post : Int32 → St2 → Bool) (J30 : Int32 → (Nat → Int32) → (Nat → Int32) → (Nat → Int32) → (Nat → Int32) → (Nat → Int32) → (Nat → Int32) → Bool) (J40 : Int32 → (Nat → Int32) → (Nat → Int32) → (Nat → Int32) → (Nat → Int32) → (Nat → Int32) → (Nat → Int32) → Bool) (x1 : Int32) (x2 : Int32) (f0_count : Int32) (a1 : Nat → Int32) (a2 : Nat → Int32) (a3 : Nat → Int32) (a4 : Nat → Int32) (a5 : Nat → Int32) (a6 : Nat → Int32) : Bool := cz_converges_99 post J30 J40 x1 x2 0 f0_count a1 a2 a3 a4 a5 a6
theorem cc_converges_98 {post : Int32 → St2 → Prop} {bpost : Int32 → St2 → Bool} {J30 : Int32 → (Nat → Int32) → (Nat → Int32) → (Nat → Int32) → (Nat → Int32) → (Nat → Int32) → (Nat → Int32) → Prop} {bJ30 : Int32 → (Nat → Int32) → (Nat → Int32) → (Nat → Int32) → (Nat → Int32) → (Nat → Int32) → (Nat → Int32) → Bool} {J40 : Int32 → (Nat → Int32) → (Nat → Int32) → (Nat → Int32) → (Nat → Int32) → (Nat → Int32) → (Nat → Int32) → Prop} {bJ40 : Int32 → (Nat → Int32) → (Nat → Int32) → (Nat → Int32) → (Nat → Int32) → (Nat → Int32) → (Nat → Int32) → Bool} (hpost : ∀ v0 v1, bpost v0 v1 = true → post v0 v1) (hJ30 : ∀ v0 v1 v2 v3 v4 v5 v6, bJ30 v0 v1 v2 v3 v4 v5 v6 = true → J30 v0 v1 v2 v3 v4 v5 v6) (hJ40 : ∀ v0 v1 v2 v3 v4 v5 v6, bJ40 v0 v1 v2 v3 v4 v5 v6 = true → J40 v0 v1 v2 v3 v4 v5 v6) {x1 : Int32} {x2 : Int32} {f0_count : Int32} {a1 : Nat → Int32} {a2 : Nat → Int32} {a3 : Nat → Int32} {a4 : Nat → Int32} {a5 : Nat → Int32} {a6 : Nat → Int32} : cz_converges_98 bpost bJ30 bJ40 x1 x2 f0_count a1 a2 a3 a4 a5 a6 = true → wX_converges_98 post J30 J40 x1 x2 f0_count a1 a2 a3 a4 a5 a6 := by
  exact cc_converges_99 hpost hJ30 hJ40
def cz_converges_40 (post : Int32 → St2 → Bool) (J30 : Int32 → (Nat → Int32) → (Nat → Int32) → (Nat → Int32) → (Nat → Int32) → (Nat → Int32) → (Nat → Int32) → Bool) (x1 : Int32) (f0_count : Int32) : Nat → Int32 → (Nat → Int32) → (Nat → Int32) → (Nat → Int32) → (Nat → Int32) → (Nat → Int32) → (Nat → Int32) → Bool
  | 0 => fun _ _ _ _ _ _ _ => false
  | n + 1 => fun x2 a1 a2 a3 a4 a5 a6 => (if f0_count ≤ x2 then cz_f (x1 + 1) (fun x1_29 => J30 x1_29 a1 a2 a3 a4 a5 a6) else (cz_in x1 8 && (if (a3 x1.toNatClampNeg) = 0 then (cz_in x2 8 && (if (a3 x2.toNatClampNeg) = 0 then cz_converges_98 post J30 (cz_converges_40 post J30 x1 f0_count n) x1 x2 f0_count a1 a2 a3 a4 a5 a6 else (cz_in x2 8 && (cz_in x1 8 && (if (a2 x2.toNatClampNeg) = (a2 x1.toNatClampNeg) then (cz_in x1 8 && (if ((((a5 x1.toNatClampNeg).toUInt32 >>> (x2.toUInt32 &&& Int32.toUInt32 31)).toInt32) &&& 1) = 0 then cz_converges_98 post J30 (cz_converges_40 post J30 x1 f0_count n) x1 x2 f0_count a1 a2 a3 a4 a5 a6 else cz_converges_99 post J30 (cz_converges_40 post J30 x1 f0_count n) x1 x2 1 f0_count a1 a2 a3 a4 a5 a6)) else cz_converges_98 post J30 (cz_converges_40 post J30 x1 f0_count n) x1 x2 f0_count a1 a2 a3 a4 a5 a6))))) else cz_converges_98 post J30 (cz_converges_40 post J30 x1 f0_count n) x1 x2 f0_count a1 a2 a3 a4 a5 a6)))
theorem cc_converges_40_i {post : Int32 → St2 → Prop} {bpost : Int32 → St2 → Bool} {J30 : Int32 → (Nat → Int32) → (Nat → Int32) → (Nat → Int32) → (Nat → Int32) → (Nat → Int32) → (Nat → Int32) → Prop} {bJ30 : Int32 → (Nat → Int32) → (Nat → Int32) → (Nat → Int32) → (Nat → Int32) → (Nat → Int32) → (Nat → Int32) → Bool} (hpost : ∀ v0 v1, bpost v0 v1 = true → post v0 v1) (hJ30 : ∀ v0 v1 v2 v3 v4 v5 v6, bJ30 v0 v1 v2 v3 v4 v5 v6 = true → J30 v0 v1 v2 v3 v4 v5 v6) {x1 : Int32} {f0_count : Int32} (n : Nat) : ∀ (x2 : Int32) (a1 : (Nat → Int32)) (a2 : (Nat → Int32)) (a3 : (Nat → Int32)) (a4 : (Nat → Int32)) (a5 : (Nat → Int32)) (a6 : (Nat → Int32)), cz_converges_40 bpost bJ30 x1 f0_count n x2 a1 a2 a3 a4 a5 a6 = true → wX_converges_40 post J30 x1 f0_count n x2 a1 a2 a3 a4 a5 a6 := by
  induction n with
  | zero => exact fun _ _ _ _ _ _ _ z => (Bool.false_ne_true z).elim
  | succ n ih =>
    intro x2 a1 a2 a3 a4 a5 a6
    refine cc_if ?_ ?_
    · refine cc_nm (fun x1_29 => ?_)
      exact hJ30 _ _ _ _ _ _ _
    · refine cc_in ?_
      refine cc_if ?_ ?_
      · refine cc_in ?_
        refine cc_if ?_ ?_
        · exact cc_converges_98 hpost hJ30 ih
        · refine cc_in ?_
          refine cc_in ?_
          refine cc_if ?_ ?_
          · refine cc_in ?_
            refine cc_if ?_ ?_
            · exact cc_converges_98 hpost hJ30 ih
            · exact cc_converges_99 hpost hJ30 ih
          · exact cc_converges_98 hpost hJ30 ih
      · exact cc_converges_98 hpost hJ30 ih
theorem cc_converges_40 {post : Int32 → St2 → Prop} {bpost : Int32 → St2 → Bool} {J30 : Int32 → (Nat → Int32) → (Nat → Int32) → (Nat → Int32) → (Nat → Int32) → (Nat → Int32) → (Nat → Int32) → Prop} {bJ30 : Int32 → (Nat → Int32) → (Nat → Int32) → (Nat → Int32) → (Nat → Int32) → (Nat → Int32) → (Nat → Int32) → Bool} (hpost : ∀ v0 v1, bpost v0 v1 = true → post v0 v1) (hJ30 : ∀ v0 v1 v2 v3 v4 v5 v6, bJ30 v0 v1 v2 v3 v4 v5 v6 = true → J30 v0 v1 v2 v3 v4 v5 v6) {x1 : Int32} {f0_count : Int32} {n : Nat} {x2 : Int32} {a1 : (Nat → Int32)} {a2 : (Nat → Int32)} {a3 : (Nat → Int32)} {a4 : (Nat → Int32)} {a5 : (Nat → Int32)} {a6 : (Nat → Int32)} : cz_converges_40 bpost bJ30 x1 f0_count n x2 a1 a2 a3 a4 a5 a6 = true → wX_converges_40 post J30 x1 f0_count n x2 a1 a2 a3 a4 a5 a6 := cc_converges_40_i hpost hJ30 n x2 a1 a2 a3 a4 a5 a6
def cz_converges_30 (post : Int32 → St2 → Bool) (f0_count : Int32) : Nat → Int32 → (Nat → Int32) → (Nat → Int32) → (Nat → Int32) → (Nat → Int32) → (Nat → Int32) → (Nat → Int32) → Bool
  | 0 => fun _ _ _ _ _ _ _ => false
  | n + 1 => fun x1 a1 a2 a3 a4 a5 a6 => (if f0_count ≤ x1 then cz_converges_162 post 12 1 0 f0_count a1 a2 a3 a4 a5 a6 else cz_converges_40 post (cz_converges_30 post f0_count n) x1 f0_count 12 0 a1 a2 a3 a4 a5 a6)
theorem cc_converges_30_i {post : Int32 → St2 → Prop} {bpost : Int32 → St2 → Bool} (hpost : ∀ v0 v1, bpost v0 v1 = true → post v0 v1) {f0_count : Int32} (n : Nat) : ∀ (x1 : Int32) (a1 : (Nat → Int32)) (a2 : (Nat → Int32)) (a3 : (Nat → Int32)) (a4 : (Nat → Int32)) (a5 : (Nat → Int32)) (a6 : (Nat → Int32)), cz_converges_30 bpost f0_count n x1 a1 a2 a3 a4 a5 a6 = true → wX_converges_30 post f0_count n x1 a1 a2 a3 a4 a5 a6 := by
  induction n with
  | zero => exact fun _ _ _ _ _ _ _ z => (Bool.false_ne_true z).elim
  | succ n ih =>
    intro x1 a1 a2 a3 a4 a5 a6
    refine cc_if ?_ ?_
    · refine cc_ex 12 ?_
      exact cc_converges_162 hpost
    · refine cc_ex 12 ?_
      exact cc_converges_40 hpost ih
theorem cc_converges_30 {post : Int32 → St2 → Prop} {bpost : Int32 → St2 → Bool} (hpost : ∀ v0 v1, bpost v0 v1 = true → post v0 v1) {f0_count : Int32} {n : Nat} {x1 : Int32} {a1 : (Nat → Int32)} {a2 : (Nat → Int32)} {a3 : (Nat → Int32)} {a4 : (Nat → Int32)} {a5 : (Nat → Int32)} {a6 : (Nat → Int32)} : cz_converges_30 bpost f0_count n x1 a1 a2 a3 a4 a5 a6 = true → wX_converges_30 post f0_count n x1 a1 a2 a3 a4 a5 a6 := cc_converges_30_i hpost n x1 a1 a2 a3 a4 a5 a6
def cz_converges_2 (post : Int32 → St2 → Bool) (f0_count : Int32) : Nat → Int32 → (Nat → Int32) → (Nat → Int32) → (Nat → Int32) → (Nat → Int32) → (Nat → Int32) → (Nat → Int32) → Bool
  | 0 => fun _ _ _ _ _ _ _ => false
  | n + 1 => fun x1 a1 a2 a3 a4 a5 a6 => (if f0_count ≤ x1 then cz_converges_30 post f0_count 12 0 a1 a2 a3 a4 a5 a6 else (cz_in x1 8 && (cz_in x1 8 && cz_u a6 x1.toNatClampNeg (a5 x1.toNatClampNeg) (fun a6_54 => cz_f (x1 + 1) (fun x1_55 => cz_converges_2 post f0_count n x1_55 a1 a2 a3 a4 a5 a6_54)))))
theorem cc_converges_2_i {post : Int32 → St2 → Prop} {bpost : Int32 → St2 → Bool} (hpost : ∀ v0 v1, bpost v0 v1 = true → post v0 v1) {f0_count : Int32} (n : Nat) : ∀ (x1 : Int32) (a1 : (Nat → Int32)) (a2 : (Nat → Int32)) (a3 : (Nat → Int32)) (a4 : (Nat → Int32)) (a5 : (Nat → Int32)) (a6 : (Nat → Int32)), cz_converges_2 bpost f0_count n x1 a1 a2 a3 a4 a5 a6 = true → wX_converges_2 post f0_count n x1 a1 a2 a3 a4 a5 a6 := by
  induction n with
  | zero => exact fun _ _ _ _ _ _ _ z => (Bool.false_ne_true z).elim
  | succ n ih =>
    intro x1 a1 a2 a3 a4 a5 a6
    refine cc_if ?_ ?_
    · refine cc_ex 12 ?_
      exact cc_converges_30 hpost
    · refine cc_in ?_
      refine cc_in ?_
      refine cc_nu (fun a6_54 => ?_)
      refine cc_nm (fun x1_55 => ?_)
      exact ih _ _ _ _ _ _ _
theorem cc_converges_2 {post : Int32 → St2 → Prop} {bpost : Int32 → St2 → Bool} (hpost : ∀ v0 v1, bpost v0 v1 = true → post v0 v1) {f0_count : Int32} {n : Nat} {x1 : Int32} {a1 : (Nat → Int32)} {a2 : (Nat → Int32)} {a3 : (Nat → Int32)} {a4 : (Nat → Int32)} {a5 : (Nat → Int32)} {a6 : (Nat → Int32)} : cz_converges_2 bpost f0_count n x1 a1 a2 a3 a4 a5 a6 = true → wX_converges_2 post f0_count n x1 a1 a2 a3 a4 a5 a6 := cc_converges_2_i hpost n x1 a1 a2 a3 a4 a5 a6
def cz_p_converges (post : Int32 → St2 → Bool) (u : St2) : Bool := match u with
  | (f0_count, a1, a2, a3, a4, a5, a6) => cz_converges_2 post f0_count 12 0 a1 a2 a3 a4 a5 a6
theorem cc_p_converges {post : Int32 → St2 → Prop} {bpost : Int32 → St2 → Bool} (hpost : ∀ v0 v1, bpost v0 v1 = true → post v0 v1) {u : St2} : cz_p_converges bpost u = true → wpX_converges post u := by
  rcases u with ⟨f0_count, a1, a2, a3, a4, a5, a6⟩
  refine cc_ex 12 ?_
  exact cc_converges_2 hpost
def cz_comesTooLate_115 (post : Int32 → Bool) (J2 : Int32 → Bool) (J61 : Int32 → Bool) (x1 : Int32) (x2 : Int32) (x3 : Int32) (x4 : Int32) (x5 : Int32) (z0 : Int32) (f0_count : Int32) (a1 : Nat → Int32) (a2 : Nat → Int32) (a3 : Nat → Int32) (a4 : Nat → Int32) (a5 : Nat → Int32) (a6 : Nat → Int32) : Bool := (if x4 = 0 then cz_f (x5 + 1) (fun x5_8 => J61 x5_8) else (if z0 = 0 then cz_f (x5 + 1) (fun x5_10 => J61 x5_10) else post 1))
theorem cc_comesTooLate_115 {post : Int32 → Prop} {bpost : Int32 → Bool} {J2 : Int32 → Prop} {bJ2 : Int32 → Bool} {J61 : Int32 → Prop} {bJ61 : Int32 → Bool} (hpost : ∀ v0, bpost v0 = true → post v0) (hJ2 : ∀ v0, bJ2 v0 = true → J2 v0) (hJ61 : ∀ v0, bJ61 v0 = true → J61 v0) {x1 : Int32} {x2 : Int32} {x3 : Int32} {x4 : Int32} {x5 : Int32} {z0 : Int32} {f0_count : Int32} {a1 : Nat → Int32} {a2 : Nat → Int32} {a3 : Nat → Int32} {a4 : Nat → Int32} {a5 : Nat → Int32} {a6 : Nat → Int32} : cz_comesTooLate_115 bpost bJ2 bJ61 x1 x2 x3 x4 x5 z0 f0_count a1 a2 a3 a4 a5 a6 = true → wX_comesTooLate_115 post J2 J61 x1 x2 x3 x4 x5 z0 f0_count a1 a2 a3 a4 a5 a6 := by
  refine cc_if ?_ ?_
  · refine cc_nm (fun x5_8 => ?_)
    exact hJ61 _
  · refine cc_if ?_ ?_
    · refine cc_nm (fun x5_10 => ?_)
      exact hJ61 _
    · exact hpost _
def cz_comesTooLate_114 (post : Int32 → Bool) (J2 : Int32 → Bool) (J61 : Int32 → Bool) (x1 : Int32) (x2 : Int32) (x3 : Int32) (x4 : Int32) (x5 : Int32) (f0_count : Int32) (a1 : Nat → Int32) (a2 : Nat → Int32) (a3 : Nat → Int32) (a4 : Nat → Int32) (a5 : Nat → Int32) (a6 : Nat → Int32) : Bool := cz_comesTooLate_115 post J2 J61 x1 x2 x3 x4 x5 0 f0_count a1 a2 a3 a4 a5 a6
theorem cc_comesTooLate_114 {post : Int32 → Prop} {bpost : Int32 → Bool} {J2 : Int32 → Prop} {bJ2 : Int32 → Bool} {J61 : Int32 → Prop} {bJ61 : Int32 → Bool} (hpost : ∀ v0, bpost v0 = true → post v0) (hJ2 : ∀ v0, bJ2 v0 = true → J2 v0) (hJ61 : ∀ v0, bJ61 v0 = true → J61 v0) {x1 : Int32} {x2 : Int32} {x3 : Int32} {x4 : Int32} {x5 : Int32} {f0_count : Int32} {a1 : Nat → Int32} {a2 : Nat → Int32} {a3 : Nat → Int32} {a4 : Nat → Int32} {a5 : Nat → Int32} {a6 : Nat → Int32} : cz_comesTooLate_114 bpost bJ2 bJ61 x1 x2 x3 x4 x5 f0_count a1 a2 a3 a4 a5 a6 = true → wX_comesTooLate_114 post J2 J61 x1 x2 x3 x4 x5 f0_count a1 a2 a3 a4 a5 a6 := by
  exact cc_comesTooLate_115 hpost hJ2 hJ61
def cz_comesTooLate_61 (post : Int32 → Bool) (J2 : Int32 → Bool) (x1 : Int32) (x2 : Int32) (x3 : Int32) (x4 : Int32) (f0_count : Int32) (a1 : Nat → Int32) (a2 : Nat → Int32) (a3 : Nat → Int32) (a4 : Nat → Int32) (a5 : Nat → Int32) (a6 : Nat → Int32) : Nat → Int32 → Bool
  | 0 => fun _ => false
  | n + 1 => fun x5 => (if f0_count ≤ x5 then cz_f (x3 + 1) (fun x3_4 => J2 x3_4) else (cz_in x5 8 && (if (a3 x5.toNatClampNeg) = 0 then cz_comesTooLate_114 post J2 (cz_comesTooLate_61 post J2 x1 x2 x3 x4 f0_count a1 a2 a3 a4 a5 a6 n) x1 x2 x3 x4 x5 f0_count a1 a2 a3 a4 a5 a6 else (cz_in x5 8 && (cz_in x3 8 && (if (a2 x5.toNatClampNeg) = (a2 x3.toNatClampNeg) then (cz_in x3 8 && (if ((((a6 x3.toNatClampNeg).toUInt32 >>> (x5.toUInt32 &&& Int32.toUInt32 31)).toInt32) &&& 1) = 0 then cz_comesTooLate_114 post J2 (cz_comesTooLate_61 post J2 x1 x2 x3 x4 f0_count a1 a2 a3 a4 a5 a6 n) x1 x2 x3 x4 x5 f0_count a1 a2 a3 a4 a5 a6 else cz_comesTooLate_115 post J2 (cz_comesTooLate_61 post J2 x1 x2 x3 x4 f0_count a1 a2 a3 a4 a5 a6 n) x1 x2 x3 x4 x5 1 f0_count a1 a2 a3 a4 a5 a6)) else cz_comesTooLate_114 post J2 (cz_comesTooLate_61 post J2 x1 x2 x3 x4 f0_count a1 a2 a3 a4 a5 a6 n) x1 x2 x3 x4 x5 f0_count a1 a2 a3 a4 a5 a6))))))
theorem cc_comesTooLate_61_i {post : Int32 → Prop} {bpost : Int32 → Bool} {J2 : Int32 → Prop} {bJ2 : Int32 → Bool} (hpost : ∀ v0, bpost v0 = true → post v0) (hJ2 : ∀ v0, bJ2 v0 = true → J2 v0) {x1 : Int32} {x2 : Int32} {x3 : Int32} {x4 : Int32} {f0_count : Int32} {a1 : Nat → Int32} {a2 : Nat → Int32} {a3 : Nat → Int32} {a4 : Nat → Int32} {a5 : Nat → Int32} {a6 : Nat → Int32} (n : Nat) : ∀ (x5 : Int32), cz_comesTooLate_61 bpost bJ2 x1 x2 x3 x4 f0_count a1 a2 a3 a4 a5 a6 n x5 = true → wX_comesTooLate_61 post J2 x1 x2 x3 x4 f0_count a1 a2 a3 a4 a5 a6 n x5 := by
  induction n with
  | zero => exact fun _ z => (Bool.false_ne_true z).elim
  | succ n ih =>
    intro x5
    refine cc_if ?_ ?_
    · refine cc_nm (fun x3_4 => ?_)
      exact hJ2 _
    · refine cc_in ?_
      refine cc_if ?_ ?_
      · exact cc_comesTooLate_114 hpost hJ2 ih
      · refine cc_in ?_
        refine cc_in ?_
        refine cc_if ?_ ?_
        · refine cc_in ?_
          refine cc_if ?_ ?_
          · exact cc_comesTooLate_114 hpost hJ2 ih
          · exact cc_comesTooLate_115 hpost hJ2 ih
        · exact cc_comesTooLate_114 hpost hJ2 ih
theorem cc_comesTooLate_61 {post : Int32 → Prop} {bpost : Int32 → Bool} {J2 : Int32 → Prop} {bJ2 : Int32 → Bool} (hpost : ∀ v0, bpost v0 = true → post v0) (hJ2 : ∀ v0, bJ2 v0 = true → J2 v0) {x1 : Int32} {x2 : Int32} {x3 : Int32} {x4 : Int32} {f0_count : Int32} {a1 : Nat → Int32} {a2 : Nat → Int32} {a3 : Nat → Int32} {a4 : Nat → Int32} {a5 : Nat → Int32} {a6 : Nat → Int32} {n : Nat} {x5 : Int32} : cz_comesTooLate_61 bpost bJ2 x1 x2 x3 x4 f0_count a1 a2 a3 a4 a5 a6 n x5 = true → wX_comesTooLate_61 post J2 x1 x2 x3 x4 f0_count a1 a2 a3 a4 a5 a6 n x5 := cc_comesTooLate_61_i hpost hJ2 n x5
def cz_comesTooLate_2 (post : Int32 → Bool) (x1 : Int32) (x2 : Int32) (f0_count : Int32) (a1 : Nat → Int32) (a2 : Nat → Int32) (a3 : Nat → Int32) (a4 : Nat → Int32) (a5 : Nat → Int32) (a6 : Nat → Int32) : Nat → Int32 → Bool
  | 0 => fun _ => false
  | n + 1 => fun x3 => (if f0_count ≤ x3 then post 0 else (if (((x2.toUInt32 >>> (x3.toUInt32 &&& Int32.toUInt32 31)).toInt32) &&& 1) = 0 then cz_comesTooLate_61 post (cz_comesTooLate_2 post x1 x2 f0_count a1 a2 a3 a4 a5 a6 n) x1 x2 x3 0 f0_count a1 a2 a3 a4 a5 a6 12 0 else (cz_in x3 8 && (if (a3 x3.toNatClampNeg) = 0 then (cz_in x3 8 && (cz_in x1 8 && (if (a1 x3.toNatClampNeg) = (a1 x1.toNatClampNeg) then (cz_in x3 8 && (if 0 ≤ (a4 x3.toNatClampNeg) then cz_comesTooLate_61 post (cz_comesTooLate_2 post x1 x2 f0_count a1 a2 a3 a4 a5 a6 n) x1 x2 x3 0 f0_count a1 a2 a3 a4 a5 a6 12 0 else cz_comesTooLate_61 post (cz_comesTooLate_2 post x1 x2 f0_count a1 a2 a3 a4 a5 a6 n) x1 x2 x3 1 f0_count a1 a2 a3 a4 a5 a6 12 0)) else cz_comesTooLate_61 post (cz_comesTooLate_2 post x1 x2 f0_count a1 a2 a3 a4 a5 a6 n) x1 x2 x3 0 f0_count a1 a2 a3 a4 a5 a6 12 0))) else cz_comesTooLate_61 post (cz_comesTooLate_2 post x1 x2 f0_count a1 a2 a3 a4 a5 a6 n) x1 x2 x3 0 f0_count a1 a2 a3 a4 a5 a6 12 0))))
theorem cc_comesTooLate_2_i {post : Int32 → Prop} {bpost : Int32 → Bool} (hpost : ∀ v0, bpost v0 = true → post v0) {x1 : Int32} {x2 : Int32} {f0_count : Int32} {a1 : Nat → Int32} {a2 : Nat → Int32} {a3 : Nat → Int32} {a4 : Nat → Int32} {a5 : Nat → Int32} {a6 : Nat → Int32} (n : Nat) : ∀ (x3 : Int32), cz_comesTooLate_2 bpost x1 x2 f0_count a1 a2 a3 a4 a5 a6 n x3 = true → wX_comesTooLate_2 post x1 x2 f0_count a1 a2 a3 a4 a5 a6 n x3 := by
  induction n with
  | zero => exact fun _ z => (Bool.false_ne_true z).elim
  | succ n ih =>
    intro x3
    refine cc_if ?_ ?_
    · exact hpost _
    · refine cc_if ?_ ?_
      · refine cc_ex 12 ?_
        exact cc_comesTooLate_61 hpost ih
      · refine cc_in ?_
        refine cc_if ?_ ?_
        · refine cc_in ?_
          refine cc_in ?_
          refine cc_if ?_ ?_
          · refine cc_in ?_
            refine cc_if ?_ ?_
            · refine cc_ex 12 ?_
              exact cc_comesTooLate_61 hpost ih
            · refine cc_ex 12 ?_
              exact cc_comesTooLate_61 hpost ih
          · refine cc_ex 12 ?_
            exact cc_comesTooLate_61 hpost ih
        · refine cc_ex 12 ?_
          exact cc_comesTooLate_61 hpost ih
theorem cc_comesTooLate_2 {post : Int32 → Prop} {bpost : Int32 → Bool} (hpost : ∀ v0, bpost v0 = true → post v0) {x1 : Int32} {x2 : Int32} {f0_count : Int32} {a1 : Nat → Int32} {a2 : Nat → Int32} {a3 : Nat → Int32} {a4 : Nat → Int32} {a5 : Nat → Int32} {a6 : Nat → Int32} {n : Nat} {x3 : Int32} : cz_comesTooLate_2 bpost x1 x2 f0_count a1 a2 a3 a4 a5 a6 n x3 = true → wX_comesTooLate_2 post x1 x2 f0_count a1 a2 a3 a4 a5 a6 n x3 := cc_comesTooLate_2_i hpost n x3
def cz_p_comesTooLate (post : Int32 → Bool) (u : St2) (p0 : Int32) (p1 : Int32) : Bool := match u with
  | (f0_count, a1, a2, a3, a4, a5, a6) => cz_comesTooLate_2 post p0 p1 f0_count a1 a2 a3 a4 a5 a6 12 0
theorem cc_p_comesTooLate {post : Int32 → Prop} {bpost : Int32 → Bool} (hpost : ∀ v0, bpost v0 = true → post v0) {u : St2} {p0 : Int32} {p1 : Int32} : cz_p_comesTooLate bpost u p0 p1 = true → wpX_comesTooLate post u p0 p1 := by
  rcases u with ⟨f0_count, a1, a2, a3, a4, a5, a6⟩
  refine cc_ex 12 ?_
  exact cc_comesTooLate_2 hpost
def cz_pushBefore_73 (post : Int32 → St2 → Bool) (J18 : Int32 → (Nat → Int32) → (Nat → Int32) → (Nat → Int32) → (Nat → Int32) → (Nat → Int32) → (Nat → Int32) → Bool) (x1 : Int32) (x2 : Int32) (x3 : Int32) (x4 : Int32) (x5 : Int32) (z0 : Int32) (f0_count : Int32) (a1 : Nat → Int32) (a2 : Nat → Int32) (a3 : Nat → Int32) (a4 : Nat → Int32) (a5 : Nat → Int32) (a6 : Nat → Int32) : Bool := (if z0 = 0 then cz_f (x5 + 1) (fun x5_10 => J18 x5_10 a1 a2 a3 a4 a5 a6) else (cz_in x1 8 && (if ((((a6 x1.toNatClampNeg).toUInt32 >>> (x5.toUInt32 &&& Int32.toUInt32 31)).toInt32) &&& 1) = 0 then cz_f (x5 + 1) (fun x5_13 => J18 x5_13 a1 a2 a3 a4 a5 a6) else (cz_in x3 8 && (cz_in x3 8 && cz_u a6 x3.toNatClampNeg ((a6 x3.toNatClampNeg) ||| ((1 : Int32) <<< (x5 &&& 31))) (fun a6_16 => cz_f (x5 + 1) (fun x5_17 => J18 x5_17 a1 a2 a3 a4 a5 a6_16)))))))
theorem cc_pushBefore_73 {post : Int32 → St2 → Prop} {bpost : Int32 → St2 → Bool} {J18 : Int32 → (Nat → Int32) → (Nat → Int32) → (Nat → Int32) → (Nat → Int32) → (Nat → Int32) → (Nat → Int32) → Prop} {bJ18 : Int32 → (Nat → Int32) → (Nat → Int32) → (Nat → Int32) → (Nat → Int32) → (Nat → Int32) → (Nat → Int32) → Bool} (hpost : ∀ v0 v1, bpost v0 v1 = true → post v0 v1) (hJ18 : ∀ v0 v1 v2 v3 v4 v5 v6, bJ18 v0 v1 v2 v3 v4 v5 v6 = true → J18 v0 v1 v2 v3 v4 v5 v6) {x1 : Int32} {x2 : Int32} {x3 : Int32} {x4 : Int32} {x5 : Int32} {z0 : Int32} {f0_count : Int32} {a1 : Nat → Int32} {a2 : Nat → Int32} {a3 : Nat → Int32} {a4 : Nat → Int32} {a5 : Nat → Int32} {a6 : Nat → Int32} : cz_pushBefore_73 bpost bJ18 x1 x2 x3 x4 x5 z0 f0_count a1 a2 a3 a4 a5 a6 = true → wX_pushBefore_73 post J18 x1 x2 x3 x4 x5 z0 f0_count a1 a2 a3 a4 a5 a6 := by
  refine cc_if ?_ ?_
  · refine cc_nm (fun x5_10 => ?_)
    exact hJ18 _ _ _ _ _ _ _
  · refine cc_in ?_
    refine cc_if ?_ ?_
    · refine cc_nm (fun x5_13 => ?_)
      exact hJ18 _ _ _ _ _ _ _
    · refine cc_in ?_
      refine cc_in ?_
      refine cc_nu (fun a6_16 => ?_)
      refine cc_nm (fun x5_17 => ?_)
      exact hJ18 _ _ _ _ _ _ _
def cz_pushBefore_72 (post : Int32 → St2 → Bool) (J18 : Int32 → (Nat → Int32) → (Nat → Int32) → (Nat → Int32) → (Nat → Int32) → (Nat → Int32) → (Nat → Int32) → Bool) (x1 : Int32) (x2 : Int32) (x3 : Int32) (x4 : Int32) (x5 : Int32) (f0_count : Int32) (a1 : Nat → Int32) (a2 : Nat → Int32) (a3 : Nat → Int32) (a4 : Nat → Int32) (a5 : Nat → Int32) (a6 : Nat → Int32) : Bool := cz_pushBefore_73 post J18 x1 x2 x3 x4 x5 0 f0_count a1 a2 a3 a4 a5 a6
theorem cc_pushBefore_72 {post : Int32 → St2 → Prop} {bpost : Int32 → St2 → Bool} {J18 : Int32 → (Nat → Int32) → (Nat → Int32) → (Nat → Int32) → (Nat → Int32) → (Nat → Int32) → (Nat → Int32) → Prop} {bJ18 : Int32 → (Nat → Int32) → (Nat → Int32) → (Nat → Int32) → (Nat → Int32) → (Nat → Int32) → (Nat → Int32) → Bool} (hpost : ∀ v0 v1, bpost v0 v1 = true → post v0 v1) (hJ18 : ∀ v0 v1 v2 v3 v4 v5 v6, bJ18 v0 v1 v2 v3 v4 v5 v6 = true → J18 v0 v1 v2 v3 v4 v5 v6) {x1 : Int32} {x2 : Int32} {x3 : Int32} {x4 : Int32} {x5 : Int32} {f0_count : Int32} {a1 : Nat → Int32} {a2 : Nat → Int32} {a3 : Nat → Int32} {a4 : Nat → Int32} {a5 : Nat → Int32} {a6 : Nat → Int32} : cz_pushBefore_72 bpost bJ18 x1 x2 x3 x4 x5 f0_count a1 a2 a3 a4 a5 a6 = true → wX_pushBefore_72 post J18 x1 x2 x3 x4 x5 f0_count a1 a2 a3 a4 a5 a6 := by
  exact cc_pushBefore_73 hpost hJ18
def cz_pushBefore_18 (post : Int32 → St2 → Bool) (x1 : Int32) (x2 : Int32) (x3 : Int32) (x4 : Int32) (f0_count : Int32) : Nat → Int32 → (Nat → Int32) → (Nat → Int32) → (Nat → Int32) → (Nat → Int32) → (Nat → Int32) → (Nat → Int32) → Bool
  | 0 => fun _ _ _ _ _ _ _ => false
  | n + 1 => fun x5 a1 a2 a3 a4 a5 a6 => (if f0_count ≤ x5 then (cz_in x3 8 && (if (a6 x3.toNatClampNeg) = x4 then post 0 (f0_count, a1, a2, a3, a4, a5, a6) else post 1 (f0_count, a1, a2, a3, a4, a5, a6))) else (if x5 = x3 then cz_pushBefore_72 post (cz_pushBefore_18 post x1 x2 x3 x4 f0_count n) x1 x2 x3 x4 x5 f0_count a1 a2 a3 a4 a5 a6 else (cz_in x5 8 && (if (a3 x5.toNatClampNeg) = 0 then cz_pushBefore_72 post (cz_pushBefore_18 post x1 x2 x3 x4 f0_count n) x1 x2 x3 x4 x5 f0_count a1 a2 a3 a4 a5 a6 else (cz_in x5 8 && (cz_in x1 8 && (if (a2 x5.toNatClampNeg) = (a2 x1.toNatClampNeg) then (if (((x2.toUInt32 >>> (x5.toUInt32 &&& Int32.toUInt32 31)).toInt32) &&& 1) = 0 then cz_pushBefore_72 post (cz_pushBefore_18 post x1 x2 x3 x4 f0_count n) x1 x2 x3 x4 x5 f0_count a1 a2 a3 a4 a5 a6 else cz_pushBefore_73 post (cz_pushBefore_18 post x1 x2 x3 x4 f0_count n) x1 x2 x3 x4 x5 1 f0_count a1 a2 a3 a4 a5 a6) else cz_pushBefore_72 post (cz_pushBefore_18 post x1 x2 x3 x4 f0_count n) x1 x2 x3 x4 x5 f0_count a1 a2 a3 a4 a5 a6)))))))
theorem cc_pushBefore_18_i {post : Int32 → St2 → Prop} {bpost : Int32 → St2 → Bool} (hpost : ∀ v0 v1, bpost v0 v1 = true → post v0 v1) {x1 : Int32} {x2 : Int32} {x3 : Int32} {x4 : Int32} {f0_count : Int32} (n : Nat) : ∀ (x5 : Int32) (a1 : (Nat → Int32)) (a2 : (Nat → Int32)) (a3 : (Nat → Int32)) (a4 : (Nat → Int32)) (a5 : (Nat → Int32)) (a6 : (Nat → Int32)), cz_pushBefore_18 bpost x1 x2 x3 x4 f0_count n x5 a1 a2 a3 a4 a5 a6 = true → wX_pushBefore_18 post x1 x2 x3 x4 f0_count n x5 a1 a2 a3 a4 a5 a6 := by
  induction n with
  | zero => exact fun _ _ _ _ _ _ _ z => (Bool.false_ne_true z).elim
  | succ n ih =>
    intro x5 a1 a2 a3 a4 a5 a6
    refine cc_if ?_ ?_
    · refine cc_in ?_
      refine cc_if ?_ ?_
      · exact hpost _ _
      · exact hpost _ _
    · refine cc_if ?_ ?_
      · exact cc_pushBefore_72 hpost ih
      · refine cc_in ?_
        refine cc_if ?_ ?_
        · exact cc_pushBefore_72 hpost ih
        · refine cc_in ?_
          refine cc_in ?_
          refine cc_if ?_ ?_
          · refine cc_if ?_ ?_
            · exact cc_pushBefore_72 hpost ih
            · exact cc_pushBefore_73 hpost ih
          · exact cc_pushBefore_72 hpost ih
theorem cc_pushBefore_18 {post : Int32 → St2 → Prop} {bpost : Int32 → St2 → Bool} (hpost : ∀ v0 v1, bpost v0 v1 = true → post v0 v1) {x1 : Int32} {x2 : Int32} {x3 : Int32} {x4 : Int32} {f0_count : Int32} {n : Nat} {x5 : Int32} {a1 : (Nat → Int32)} {a2 : (Nat → Int32)} {a3 : (Nat → Int32)} {a4 : (Nat → Int32)} {a5 : (Nat → Int32)} {a6 : (Nat → Int32)} : cz_pushBefore_18 bpost x1 x2 x3 x4 f0_count n x5 a1 a2 a3 a4 a5 a6 = true → wX_pushBefore_18 post x1 x2 x3 x4 f0_count n x5 a1 a2 a3 a4 a5 a6 := cc_pushBefore_18_i hpost n x5 a1 a2 a3 a4 a5 a6
def cz_p_pushBefore (post : Int32 → St2 → Bool) (u : St2) (p0 : Int32) (p1 : Int32) : Bool := match u with
  | (f0_count, a1, a2, a3, a4, a5, a6) => (cz_in p0 8 && cz_f (a4 p0.toNatClampNeg) (fun x3_2 => (cz_in x3_2 8 && cz_f (a6 x3_2.toNatClampNeg) (fun x4_4 => cz_pushBefore_18 post p0 p1 x3_2 x4_4 f0_count 12 0 a1 a2 a3 a4 a5 a6))))
theorem cc_p_pushBefore {post : Int32 → St2 → Prop} {bpost : Int32 → St2 → Bool} (hpost : ∀ v0 v1, bpost v0 v1 = true → post v0 v1) {u : St2} {p0 : Int32} {p1 : Int32} : cz_p_pushBefore bpost u p0 p1 = true → wpX_pushBefore post u p0 p1 := by
  rcases u with ⟨f0_count, a1, a2, a3, a4, a5, a6⟩
  refine cc_in ?_
  refine cc_nm (fun x3_2 => ?_)
  refine cc_in ?_
  refine cc_nm (fun x4_4 => ?_)
  refine cc_ex 12 ?_
  exact cc_pushBefore_18 hpost
def cz_isStrong_176 (post : Int32 → St2 → Bool) (x1 : Int32) (x2 : Int32) (f0_count : Int32) (a1 : Nat → Int32) (a2 : Nat → Int32) (a3 : Nat → Int32) (a4 : Nat → Int32) (a5 : Nat → Int32) (a6 : Nat → Int32) : Bool := cz_p_hasRing (fun r_5 => (if r_5 = 0 then cz_p_comesTooLate (fun r_7 => (if r_7 = 0 then post 1 (f0_count, a1, a2, a3, a4, a5, a6) else post 0 (f0_count, a1, a2, a3, a4, a5, a6))) (f0_count, a1, a2, a3, a4, a5, a6) x1 x2 else post 0 (f0_count, a1, a2, a3, a4, a5, a6))) (f0_count, a1, a2, a3, a4, a5, a6)
theorem cc_isStrong_176 {post : Int32 → St2 → Prop} {bpost : Int32 → St2 → Bool} (hpost : ∀ v0 v1, bpost v0 v1 = true → post v0 v1) {x1 : Int32} {x2 : Int32} {f0_count : Int32} {a1 : Nat → Int32} {a2 : Nat → Int32} {a3 : Nat → Int32} {a4 : Nat → Int32} {a5 : Nat → Int32} {a6 : Nat → Int32} : cz_isStrong_176 bpost x1 x2 f0_count a1 a2 a3 a4 a5 a6 = true → wX_isStrong_176 post x1 x2 f0_count a1 a2 a3 a4 a5 a6 := by
  refine cc_p_hasRing ?_
  · intro r_5
    refine cc_if ?_ ?_
    · refine cc_p_comesTooLate ?_
      · intro r_7
        refine cc_if ?_ ?_
        · exact hpost _ _
        · exact hpost _ _
    · exact hpost _ _
def cz_isStrong_109 (post : Int32 → St2 → Bool) (J44 : Int32 → Int32 → Int32 → (Nat → Int32) → (Nat → Int32) → (Nat → Int32) → (Nat → Int32) → (Nat → Int32) → (Nat → Int32) → Bool) (J60 : Int32 → Int32 → Int32 → (Nat → Int32) → (Nat → Int32) → (Nat → Int32) → (Nat → Int32) → (Nat → Int32) → (Nat → Int32) → Bool) (x1 : Int32) (x2 : Int32) (x3 : Int32) (x4 : Int32) (x5 : Int32) (z0 : Int32) (f0_count : Int32) (a1 : Nat → Int32) (a2 : Nat → Int32) (a3 : Nat → Int32) (a4 : Nat → Int32) (a5 : Nat → Int32) (a6 : Nat → Int32) : Bool := (if z0 = 0 then cz_f (x5 + 1) (fun x5_38 => J60 x3 x5_38 f0_count a1 a2 a3 a4 a5 a6) else (cz_in x5 8 && (if (a4 x5.toNatClampNeg) < 0 then cz_f (x5 + 1) (fun x5_41 => J60 x3 x5_41 f0_count a1 a2 a3 a4 a5 a6) else cz_p_pushBefore (fun r_42 u => match u with | (f0_count_43, am1301_46, am1302_49, am1303_52, am1304_55, am1305_58, am1306_61) => (if r_42 = 0 then (if x3 = 0 then cz_f (x5 + 1) (fun x5_65 => J60 0 x5_65 f0_count_43 am1301_46 am1302_49 am1303_52 am1304_55 am1305_58 am1306_61) else cz_f (x5 + 1) (fun x5_66 => J60 1 x5_66 f0_count_43 am1301_46 am1302_49 am1303_52 am1304_55 am1305_58 am1306_61)) else cz_f (x5 + 1) (fun x5_63 => J60 1 x5_63 f0_count_43 am1301_46 am1302_49 am1303_52 am1304_55 am1305_58 am1306_61))) (f0_count, a1, a2, a3, a4, a5, a6) x5 x2)))
theorem cc_isStrong_109 {post : Int32 → St2 → Prop} {bpost : Int32 → St2 → Bool} {J44 : Int32 → Int32 → Int32 → (Nat → Int32) → (Nat → Int32) → (Nat → Int32) → (Nat → Int32) → (Nat → Int32) → (Nat → Int32) → Prop} {bJ44 : Int32 → Int32 → Int32 → (Nat → Int32) → (Nat → Int32) → (Nat → Int32) → (Nat → Int32) → (Nat → Int32) → (Nat → Int32) → Bool} {J60 : Int32 → Int32 → Int32 → (Nat → Int32) → (Nat → Int32) → (Nat → Int32) → (Nat → Int32) → (Nat → Int32) → (Nat → Int32) → Prop} {bJ60 : Int32 → Int32 → Int32 → (Nat → Int32) → (Nat → Int32) → (Nat → Int32) → (Nat → Int32) → (Nat → Int32) → (Nat → Int32) → Bool} (hpost : ∀ v0 v1, bpost v0 v1 = true → post v0 v1) (hJ44 : ∀ v0 v1 v2 v3 v4 v5 v6 v7 v8, bJ44 v0 v1 v2 v3 v4 v5 v6 v7 v8 = true → J44 v0 v1 v2 v3 v4 v5 v6 v7 v8) (hJ60 : ∀ v0 v1 v2 v3 v4 v5 v6 v7 v8, bJ60 v0 v1 v2 v3 v4 v5 v6 v7 v8 = true → J60 v0 v1 v2 v3 v4 v5 v6 v7 v8) {x1 : Int32} {x2 : Int32} {x3 : Int32} {x4 : Int32} {x5 : Int32} {z0 : Int32} {f0_count : Int32} {a1 : Nat → Int32} {a2 : Nat → Int32} {a3 : Nat → Int32} {a4 : Nat → Int32} {a5 : Nat → Int32} {a6 : Nat → Int32} : cz_isStrong_109 bpost bJ44 bJ60 x1 x2 x3 x4 x5 z0 f0_count a1 a2 a3 a4 a5 a6 = true → wX_isStrong_109 post J44 J60 x1 x2 x3 x4 x5 z0 f0_count a1 a2 a3 a4 a5 a6 := by
  refine cc_if ?_ ?_
  · refine cc_nm (fun x5_38 => ?_)
    exact hJ60 _ _ _ _ _ _ _ _ _
  · refine cc_in ?_
    refine cc_if ?_ ?_
    · refine cc_nm (fun x5_41 => ?_)
      exact hJ60 _ _ _ _ _ _ _ _ _
    · refine cc_p_pushBefore ?_
      · intro r_42 u
        rcases u with ⟨f0_count_43, am1301_46, am1302_49, am1303_52, am1304_55, am1305_58, am1306_61⟩
        refine cc_if ?_ ?_
        · refine cc_if ?_ ?_
          · refine cc_nm (fun x5_65 => ?_)
            exact hJ60 _ _ _ _ _ _ _ _ _
          · refine cc_nm (fun x5_66 => ?_)
            exact hJ60 _ _ _ _ _ _ _ _ _
        · refine cc_nm (fun x5_63 => ?_)
          exact hJ60 _ _ _ _ _ _ _ _ _
def cz_isStrong_108 (post : Int32 → St2 → Bool) (J44 : Int32 → Int32 → Int32 → (Nat → Int32) → (Nat → Int32) → (Nat → Int32) → (Nat → Int32) → (Nat → Int32) → (Nat → Int32) → Bool) (J60 : Int32 → Int32 → Int32 → (Nat → Int32) → (Nat → Int32) → (Nat → Int32) → (Nat → Int32) → (Nat → Int32) → (Nat → Int32) → Bool) (x1 : Int32) (x2 : Int32) (x3 : Int32) (x4 : Int32) (x5 : Int32) (f0_count : Int32) (a1 : Nat → Int32) (a2 : Nat → Int32) (a3 : Nat → Int32) (a4 : Nat → Int32) (a5 : Nat → Int32) (a6 : Nat → Int32) : Bool := cz_isStrong_109 post J44 J60 x1 x2 x3 x4 x5 0 f0_count a1 a2 a3 a4 a5 a6
theorem cc_isStrong_108 {post : Int32 → St2 → Prop} {bpost : Int32 → St2 → Bool} {J44 : Int32 → Int32 → Int32 → (Nat → Int32) → (Nat → Int32) → (Nat → Int32) → (Nat → Int32) → (Nat → Int32) → (Nat → Int32) → Prop} {bJ44 : Int32 → Int32 → Int32 → (Nat → Int32) → (Nat → Int32) → (Nat → Int32) → (Nat → Int32) → (Nat → Int32) → (Nat → Int32) → Bool} {J60 : Int32 → Int32 → Int32 → (Nat → Int32) → (Nat → Int32) → (Nat → Int32) → (Nat → Int32) → (Nat → Int32) → (Nat → Int32) → Prop} {bJ60 : Int32 → Int32 → Int32 → (Nat → Int32) → (Nat → Int32) → (Nat → Int32) → (Nat → Int32) → (Nat → Int32) → (Nat → Int32) → Bool} (hpost : ∀ v0 v1, bpost v0 v1 = true → post v0 v1) (hJ44 : ∀ v0 v1 v2 v3 v4 v5 v6 v7 v8, bJ44 v0 v1 v2 v3 v4 v5 v6 v7 v8 = true → J44 v0 v1 v2 v3 v4 v5 v6 v7 v8) (hJ60 : ∀ v0 v1 v2 v3 v4 v5 v6 v7 v8, bJ60 v0 v1 v2 v3 v4 v5 v6 v7 v8 = true → J60 v0 v1 v2 v3 v4 v5 v6 v7 v8) {x1 : Int32} {x2 : Int32} {x3 : Int32} {x4 : Int32} {x5 : Int32} {f0_count : Int32} {a1 : Nat → Int32} {a2 : Nat → Int32} {a3 : Nat → Int32} {a4 : Nat → Int32} {a5 : Nat → Int32} {a6 : Nat → Int32} : cz_isStrong_108 bpost bJ44 bJ60 x1 x2 x3 x4 x5 f0_count a1 a2 a3 a4 a5 a6 = true → wX_isStrong_108 post J44 J60 x1 x2 x3 x4 x5 f0_count a1 a2 a3 a4 a5 a6 := by
  exact cc_isStrong_109 hpost hJ44 hJ60
def cz_isStrong_60 (post : Int32 → St2 → Bool) (J44 : Int32 → Int32 → Int32 → (Nat → Int32) → (Nat → Int32) → (Nat → Int32) → (Nat → Int32) → (Nat → Int32) → (Nat → Int32) → Bool) (x1 : Int32) (x2 : Int32) (x4 : Int32) : Nat → Int32 → Int32 → Int32 → (Nat → Int32) → (Nat → Int32) → (Nat → Int32) → (Nat → Int32) → (Nat → Int32) → (Nat → Int32) → Bool
  | 0 => fun _ _ _ _ _ _ _ _ _ => false
  | n + 1 => fun x3 x5 f0_count a1 a2 a3 a4 a5 a6 => (if f0_count ≤ x5 then cz_p_close (fun r_11 u => match u with | (f0_count_12, am1541_15, am1542_18, am1543_21, am1544_24, am1545_27, am1546_30) => (if r_11 = 0 then (if x3 = 0 then cz_f (x4 + 1) (fun x4_34 => J44 0 x4_34 f0_count_12 am1541_15 am1542_18 am1543_21 am1544_24 am1545_27 am1546_30) else cz_f (x4 + 1) (fun x4_35 => J44 1 x4_35 f0_count_12 am1541_15 am1542_18 am1543_21 am1544_24 am1545_27 am1546_30)) else cz_f (x4 + 1) (fun x4_32 => J44 1 x4_32 f0_count_12 am1541_15 am1542_18 am1543_21 am1544_24 am1545_27 am1546_30))) (f0_count, a1, a2, a3, a4, a5, a6) x2 else (if (((x2.toUInt32 >>> (x5.toUInt32 &&& Int32.toUInt32 31)).toInt32) &&& 1) = 0 then cz_isStrong_108 post J44 (cz_isStrong_60 post J44 x1 x2 x4 n) x1 x2 x3 x4 x5 f0_count a1 a2 a3 a4 a5 a6 else (cz_in x5 8 && (if (a3 x5.toNatClampNeg) = 0 then (cz_in x5 8 && (cz_in x1 8 && (if (a1 x5.toNatClampNeg) = (a1 x1.toNatClampNeg) then cz_isStrong_109 post J44 (cz_isStrong_60 post J44 x1 x2 x4 n) x1 x2 x3 x4 x5 1 f0_count a1 a2 a3 a4 a5 a6 else cz_isStrong_108 post J44 (cz_isStrong_60 post J44 x1 x2 x4 n) x1 x2 x3 x4 x5 f0_count a1 a2 a3 a4 a5 a6))) else cz_isStrong_108 post J44 (cz_isStrong_60 post J44 x1 x2 x4 n) x1 x2 x3 x4 x5 f0_count a1 a2 a3 a4 a5 a6))))
theorem cc_isStrong_60_i {post : Int32 → St2 → Prop} {bpost : Int32 → St2 → Bool} {J44 : Int32 → Int32 → Int32 → (Nat → Int32) → (Nat → Int32) → (Nat → Int32) → (Nat → Int32) → (Nat → Int32) → (Nat → Int32) → Prop} {bJ44 : Int32 → Int32 → Int32 → (Nat → Int32) → (Nat → Int32) → (Nat → Int32) → (Nat → Int32) → (Nat → Int32) → (Nat → Int32) → Bool} (hpost : ∀ v0 v1, bpost v0 v1 = true → post v0 v1) (hJ44 : ∀ v0 v1 v2 v3 v4 v5 v6 v7 v8, bJ44 v0 v1 v2 v3 v4 v5 v6 v7 v8 = true → J44 v0 v1 v2 v3 v4 v5 v6 v7 v8) {x1 : Int32} {x2 : Int32} {x4 : Int32} (n : Nat) : ∀ (x3 : Int32) (x5 : Int32) (f0_count : Int32) (a1 : (Nat → Int32)) (a2 : (Nat → Int32)) (a3 : (Nat → Int32)) (a4 : (Nat → Int32)) (a5 : (Nat → Int32)) (a6 : (Nat → Int32)), cz_isStrong_60 bpost bJ44 x1 x2 x4 n x3 x5 f0_count a1 a2 a3 a4 a5 a6 = true → wX_isStrong_60 post J44 x1 x2 x4 n x3 x5 f0_count a1 a2 a3 a4 a5 a6 := by
  induction n with
  | zero => exact fun _ _ _ _ _ _ _ _ _ z => (Bool.false_ne_true z).elim
  | succ n ih =>
    intro x3 x5 f0_count a1 a2 a3 a4 a5 a6
    refine cc_if ?_ ?_
    · refine cc_p_close ?_
      · intro r_11 u
        rcases u with ⟨f0_count_12, am1541_15, am1542_18, am1543_21, am1544_24, am1545_27, am1546_30⟩
        refine cc_if ?_ ?_
        · refine cc_if ?_ ?_
          · refine cc_nm (fun x4_34 => ?_)
            exact hJ44 _ _ _ _ _ _ _ _ _
          · refine cc_nm (fun x4_35 => ?_)
            exact hJ44 _ _ _ _ _ _ _ _ _
        · refine cc_nm (fun x4_32 => ?_)
          exact hJ44 _ _ _ _ _ _ _ _ _
    · refine cc_if ?_ ?_
      · exact cc_isStrong_108 hpost hJ44 ih
      · refine cc_in ?_
        refine cc_if ?_ ?_
        · refine cc_in ?_
          refine cc_in ?_
          refine cc_if ?_ ?_
          · exact cc_isStrong_109 hpost hJ44 ih
          · exact cc_isStrong_108 hpost hJ44 ih
        · exact cc_isStrong_108 hpost hJ44 ih
theorem cc_isStrong_60 {post : Int32 → St2 → Prop} {bpost : Int32 → St2 → Bool} {J44 : Int32 → Int32 → Int32 → (Nat → Int32) → (Nat → Int32) → (Nat → Int32) → (Nat → Int32) → (Nat → Int32) → (Nat → Int32) → Prop} {bJ44 : Int32 → Int32 → Int32 → (Nat → Int32) → (Nat → Int32) → (Nat → Int32) → (Nat → Int32) → (Nat → Int32) → (Nat → Int32) → Bool} (hpost : ∀ v0 v1, bpost v0 v1 = true → post v0 v1) (hJ44 : ∀ v0 v1 v2 v3 v4 v5 v6 v7 v8, bJ44 v0 v1 v2 v3 v4 v5 v6 v7 v8 = true → J44 v0 v1 v2 v3 v4 v5 v6 v7 v8) {x1 : Int32} {x2 : Int32} {x4 : Int32} {n : Nat} {x3 : Int32} {x5 : Int32} {f0_count : Int32} {a1 : (Nat → Int32)} {a2 : (Nat → Int32)} {a3 : (Nat → Int32)} {a4 : (Nat → Int32)} {a5 : (Nat → Int32)} {a6 : (Nat → Int32)} : cz_isStrong_60 bpost bJ44 x1 x2 x4 n x3 x5 f0_count a1 a2 a3 a4 a5 a6 = true → wX_isStrong_60 post J44 x1 x2 x4 n x3 x5 f0_count a1 a2 a3 a4 a5 a6 := cc_isStrong_60_i hpost hJ44 n x3 x5 f0_count a1 a2 a3 a4 a5 a6
def cz_isStrong_44 (post : Int32 → St2 → Bool) (x1 : Int32) (x2 : Int32) : Nat → Int32 → Int32 → Int32 → (Nat → Int32) → (Nat → Int32) → (Nat → Int32) → (Nat → Int32) → (Nat → Int32) → (Nat → Int32) → Bool
  | 0 => fun _ _ _ _ _ _ _ _ _ => false
  | n + 1 => fun x3 x4 f0_count a1 a2 a3 a4 a5 a6 => (if 60 ≤ x4 then cz_isStrong_176 post x1 x2 f0_count a1 a2 a3 a4 a5 a6 else (if x3 = 0 then cz_isStrong_176 post x1 x2 f0_count a1 a2 a3 a4 a5 a6 else cz_isStrong_60 post (cz_isStrong_44 post x1 x2 n) x1 x2 x4 12 0 0 f0_count a1 a2 a3 a4 a5 a6))
theorem cc_isStrong_44_i {post : Int32 → St2 → Prop} {bpost : Int32 → St2 → Bool} (hpost : ∀ v0 v1, bpost v0 v1 = true → post v0 v1) {x1 : Int32} {x2 : Int32} (n : Nat) : ∀ (x3 : Int32) (x4 : Int32) (f0_count : Int32) (a1 : (Nat → Int32)) (a2 : (Nat → Int32)) (a3 : (Nat → Int32)) (a4 : (Nat → Int32)) (a5 : (Nat → Int32)) (a6 : (Nat → Int32)), cz_isStrong_44 bpost x1 x2 n x3 x4 f0_count a1 a2 a3 a4 a5 a6 = true → wX_isStrong_44 post x1 x2 n x3 x4 f0_count a1 a2 a3 a4 a5 a6 := by
  induction n with
  | zero => exact fun _ _ _ _ _ _ _ _ _ z => (Bool.false_ne_true z).elim
  | succ n ih =>
    intro x3 x4 f0_count a1 a2 a3 a4 a5 a6
    refine cc_if ?_ ?_
    · exact cc_isStrong_176 hpost
    · refine cc_if ?_ ?_
      · exact cc_isStrong_176 hpost
      · refine cc_ex 12 ?_
        exact cc_isStrong_60 hpost ih
theorem cc_isStrong_44 {post : Int32 → St2 → Prop} {bpost : Int32 → St2 → Bool} (hpost : ∀ v0 v1, bpost v0 v1 = true → post v0 v1) {x1 : Int32} {x2 : Int32} {n : Nat} {x3 : Int32} {x4 : Int32} {f0_count : Int32} {a1 : (Nat → Int32)} {a2 : (Nat → Int32)} {a3 : (Nat → Int32)} {a4 : (Nat → Int32)} {a5 : (Nat → Int32)} {a6 : (Nat → Int32)} : cz_isStrong_44 bpost x1 x2 n x3 x4 f0_count a1 a2 a3 a4 a5 a6 = true → wX_isStrong_44 post x1 x2 n x3 x4 f0_count a1 a2 a3 a4 a5 a6 := cc_isStrong_44_i hpost n x3 x4 f0_count a1 a2 a3 a4 a5 a6
def cz_isStrong_13 (post : Int32 → St2 → Bool) (x1 : Int32) (x2 : Int32) (f0_count : Int32) : Nat → Int32 → (Nat → Int32) → (Nat → Int32) → (Nat → Int32) → (Nat → Int32) → (Nat → Int32) → (Nat → Int32) → Bool
  | 0 => fun _ _ _ _ _ _ _ => false
  | n + 1 => fun x3 a1 a2 a3 a4 a5 a6 => (if f0_count ≤ x3 then cz_isStrong_44 post x1 x2 12 1 0 f0_count a1 a2 a3 a4 a5 a6 else (cz_in x3 8 && (cz_in x3 8 && cz_u a6 x3.toNatClampNeg (a5 x3.toNatClampNeg) (fun a6_74 => cz_f (x3 + 1) (fun x3_75 => cz_isStrong_13 post x1 x2 f0_count n x3_75 a1 a2 a3 a4 a5 a6_74)))))
theorem cc_isStrong_13_i {post : Int32 → St2 → Prop} {bpost : Int32 → St2 → Bool} (hpost : ∀ v0 v1, bpost v0 v1 = true → post v0 v1) {x1 : Int32} {x2 : Int32} {f0_count : Int32} (n : Nat) : ∀ (x3 : Int32) (a1 : (Nat → Int32)) (a2 : (Nat → Int32)) (a3 : (Nat → Int32)) (a4 : (Nat → Int32)) (a5 : (Nat → Int32)) (a6 : (Nat → Int32)), cz_isStrong_13 bpost x1 x2 f0_count n x3 a1 a2 a3 a4 a5 a6 = true → wX_isStrong_13 post x1 x2 f0_count n x3 a1 a2 a3 a4 a5 a6 := by
  induction n with
  | zero => exact fun _ _ _ _ _ _ _ z => (Bool.false_ne_true z).elim
  | succ n ih =>
    intro x3 a1 a2 a3 a4 a5 a6
    refine cc_if ?_ ?_
    · refine cc_ex 12 ?_
      exact cc_isStrong_44 hpost
    · refine cc_in ?_
      refine cc_in ?_
      refine cc_nu (fun a6_74 => ?_)
      refine cc_nm (fun x3_75 => ?_)
      exact ih _ _ _ _ _ _ _
theorem cc_isStrong_13 {post : Int32 → St2 → Prop} {bpost : Int32 → St2 → Bool} (hpost : ∀ v0 v1, bpost v0 v1 = true → post v0 v1) {x1 : Int32} {x2 : Int32} {f0_count : Int32} {n : Nat} {x3 : Int32} {a1 : (Nat → Int32)} {a2 : (Nat → Int32)} {a3 : (Nat → Int32)} {a4 : (Nat → Int32)} {a5 : (Nat → Int32)} {a6 : (Nat → Int32)} : cz_isStrong_13 bpost x1 x2 f0_count n x3 a1 a2 a3 a4 a5 a6 = true → wX_isStrong_13 post x1 x2 f0_count n x3 a1 a2 a3 a4 a5 a6 := cc_isStrong_13_i hpost n x3 a1 a2 a3 a4 a5 a6
def cz_p_isStrong (post : Int32 → St2 → Bool) (u : St2) (p0 : Int32) : Bool := match u with
  | (f0_count, a1, a2, a3, a4, a5, a6) => (cz_in p0 8 && cz_f ((a5 p0.toNatClampNeg) ||| ((1 : Int32) <<< (p0 &&& 31))) (fun x2_2 => cz_isStrong_13 post p0 x2_2 f0_count 12 0 a1 a2 a3 a4 a5 a6))
theorem cc_p_isStrong {post : Int32 → St2 → Prop} {bpost : Int32 → St2 → Bool} (hpost : ∀ v0 v1, bpost v0 v1 = true → post v0 v1) {u : St2} {p0 : Int32} : cz_p_isStrong bpost u p0 = true → wpX_isStrong post u p0 := by
  rcases u with ⟨f0_count, a1, a2, a3, a4, a5, a6⟩
  refine cc_in ?_
  refine cc_nm (fun x2_2 => ?_)
  refine cc_ex 12 ?_
  exact cc_isStrong_13 hpost
def cz_sound_27 (post : Int32 → St2 → Bool) (J6 : Int32 → Int32 → Int32 → Int32 → (Nat → Int32) → (Nat → Int32) → (Nat → Int32) → (Nat → Int32) → (Nat → Int32) → (Nat → Int32) → Bool) (x2 : Int32) (x3 : Int32) (z0 : Int32) (f0_count : Int32) (a1 : Nat → Int32) (a2 : Nat → Int32) (a3 : Nat → Int32) (a4 : Nat → Int32) (a5 : Nat → Int32) (a6 : Nat → Int32) : Bool := cz_p_isStrong (fun r_25 u => match u with | (f0_count_26, am301_29, am302_32, am303_35, am304_38, am305_41, am306_44) => (if r_25 = 0 then cz_f (x3 + 1) (fun x3_46 => J6 z0 0 x3_46 f0_count_26 am301_29 am302_32 am303_35 am304_38 am305_41 am306_44) else cz_f (x3 + 1) (fun x3_47 => J6 z0 x2 x3_47 f0_count_26 am301_29 am302_32 am303_35 am304_38 am305_41 am306_44))) (f0_count, a1, a2, a3, a4, a5, a6) x3
theorem cc_sound_27 {post : Int32 → St2 → Prop} {bpost : Int32 → St2 → Bool} {J6 : Int32 → Int32 → Int32 → Int32 → (Nat → Int32) → (Nat → Int32) → (Nat → Int32) → (Nat → Int32) → (Nat → Int32) → (Nat → Int32) → Prop} {bJ6 : Int32 → Int32 → Int32 → Int32 → (Nat → Int32) → (Nat → Int32) → (Nat → Int32) → (Nat → Int32) → (Nat → Int32) → (Nat → Int32) → Bool} (hpost : ∀ v0 v1, bpost v0 v1 = true → post v0 v1) (hJ6 : ∀ v0 v1 v2 v3 v4 v5 v6 v7 v8 v9, bJ6 v0 v1 v2 v3 v4 v5 v6 v7 v8 v9 = true → J6 v0 v1 v2 v3 v4 v5 v6 v7 v8 v9) {x2 : Int32} {x3 : Int32} {z0 : Int32} {f0_count : Int32} {a1 : Nat → Int32} {a2 : Nat → Int32} {a3 : Nat → Int32} {a4 : Nat → Int32} {a5 : Nat → Int32} {a6 : Nat → Int32} : cz_sound_27 bpost bJ6 x2 x3 z0 f0_count a1 a2 a3 a4 a5 a6 = true → wX_sound_27 post J6 x2 x3 z0 f0_count a1 a2 a3 a4 a5 a6 := by
  refine cc_p_isStrong ?_
  · intro r_25 u
    rcases u with ⟨f0_count_26, am301_29, am302_32, am303_35, am304_38, am305_41, am306_44⟩
    refine cc_if ?_ ?_
    · refine cc_nm (fun x3_46 => ?_)
      exact hJ6 _ _ _ _ _ _ _ _ _ _
    · refine cc_nm (fun x3_47 => ?_)
      exact hJ6 _ _ _ _ _ _ _ _ _ _
def cz_sound_6 (post : Int32 → St2 → Bool) : Nat → Int32 → Int32 → Int32 → Int32 → (Nat → Int32) → (Nat → Int32) → (Nat → Int32) → (Nat → Int32) → (Nat → Int32) → (Nat → Int32) → Bool
  | 0 => fun _ _ _ _ _ _ _ _ _ _ => false
  | n + 1 => fun x1 x2 x3 f0_count a1 a2 a3 a4 a5 a6 => (if f0_count ≤ x3 then cz_p_converges (fun r_2 u => match u with | (f0_count_3, am521_6, am522_9, am523_12, am524_15, am525_18, am526_21) => (if r_2 = 0 then post ((x1 + x2) + 0) (f0_count_3, am521_6, am522_9, am523_12, am524_15, am525_18, am526_21) else post ((x1 + x2) + 4) (f0_count_3, am521_6, am522_9, am523_12, am524_15, am525_18, am526_21))) (f0_count, a1, a2, a3, a4, a5, a6) else cz_p_isWeak (fun r_23 => (if r_23 = 0 then cz_sound_27 post (cz_sound_6 post n) x2 x3 0 f0_count a1 a2 a3 a4 a5 a6 else cz_sound_27 post (cz_sound_6 post n) x2 x3 x1 f0_count a1 a2 a3 a4 a5 a6)) (f0_count, a1, a2, a3, a4, a5, a6) x3)
theorem cc_sound_6_i {post : Int32 → St2 → Prop} {bpost : Int32 → St2 → Bool} (hpost : ∀ v0 v1, bpost v0 v1 = true → post v0 v1)  (n : Nat) : ∀ (x1 : Int32) (x2 : Int32) (x3 : Int32) (f0_count : Int32) (a1 : (Nat → Int32)) (a2 : (Nat → Int32)) (a3 : (Nat → Int32)) (a4 : (Nat → Int32)) (a5 : (Nat → Int32)) (a6 : (Nat → Int32)), cz_sound_6 bpost n x1 x2 x3 f0_count a1 a2 a3 a4 a5 a6 = true → wX_sound_6 post n x1 x2 x3 f0_count a1 a2 a3 a4 a5 a6 := by
  induction n with
  | zero => exact fun _ _ _ _ _ _ _ _ _ _ z => (Bool.false_ne_true z).elim
  | succ n ih =>
    intro x1 x2 x3 f0_count a1 a2 a3 a4 a5 a6
    refine cc_if ?_ ?_
    · refine cc_p_converges ?_
      · intro r_2 u
        rcases u with ⟨f0_count_3, am521_6, am522_9, am523_12, am524_15, am525_18, am526_21⟩
        refine cc_if ?_ ?_
        · exact hpost _ _
        · exact hpost _ _
    · refine cc_p_isWeak ?_
      · intro r_23
        refine cc_if ?_ ?_
        · exact cc_sound_27 hpost ih
        · exact cc_sound_27 hpost ih
theorem cc_sound_6 {post : Int32 → St2 → Prop} {bpost : Int32 → St2 → Bool} (hpost : ∀ v0 v1, bpost v0 v1 = true → post v0 v1)  {n : Nat} {x1 : Int32} {x2 : Int32} {x3 : Int32} {f0_count : Int32} {a1 : (Nat → Int32)} {a2 : (Nat → Int32)} {a3 : (Nat → Int32)} {a4 : (Nat → Int32)} {a5 : (Nat → Int32)} {a6 : (Nat → Int32)} : cz_sound_6 bpost n x1 x2 x3 f0_count a1 a2 a3 a4 a5 a6 = true → wX_sound_6 post n x1 x2 x3 f0_count a1 a2 a3 a4 a5 a6 := cc_sound_6_i hpost n x1 x2 x3 f0_count a1 a2 a3 a4 a5 a6
def cz_p_sound (post : Int32 → St2 → Bool) (u : St2) : Bool := match u with
  | (f0_count, a1, a2, a3, a4, a5, a6) => cz_sound_6 post 12 1 2 0 f0_count a1 a2 a3 a4 a5 a6
theorem cc_p_sound {post : Int32 → St2 → Prop} {bpost : Int32 → St2 → Bool} (hpost : ∀ v0 v1, bpost v0 v1 = true → post v0 v1) {u : St2} : cz_p_sound bpost u = true → wpX_sound post u := by
  rcases u with ⟨f0_count, a1, a2, a3, a4, a5, a6⟩
  refine cc_ex 12 ?_
  exact cc_sound_6 hpost
def cz_p_strong (post : Int32 → St2 → Bool) (u : St2) (p0 : Int32) : Bool := match u with
  | (f0_count, a1, a2, a3, a4, a5, a6) => cz_p_isHeld (fun r_1 => (if r_1 = 0 then post (-1) (f0_count, a1, a2, a3, a4, a5, a6) else cz_p_isStrong (fun r_3 u => match u with | (f0_count_4, am121_7, am122_10, am123_13, am124_16, am125_19, am126_22) => (if r_3 = 0 then post 0 (f0_count_4, am121_7, am122_10, am123_13, am124_16, am125_19, am126_22) else post 1 (f0_count_4, am121_7, am122_10, am123_13, am124_16, am125_19, am126_22))) (f0_count, a1, a2, a3, a4, a5, a6) p0)) (f0_count, a1, a2, a3, a4, a5, a6) p0
theorem cc_p_strong {post : Int32 → St2 → Prop} {bpost : Int32 → St2 → Bool} (hpost : ∀ v0 v1, bpost v0 v1 = true → post v0 v1) {u : St2} {p0 : Int32} : cz_p_strong bpost u p0 = true → wpX_strong post u p0 := by
  rcases u with ⟨f0_count, a1, a2, a3, a4, a5, a6⟩
  unfold cz_p_strong wpX_strong
  dsimp only
  refine cc_p_isHeld ?_
  · intro r_1
    refine cc_if ?_ ?_
    · exact hpost _ _
    · refine cc_p_isStrong ?_
      · intro r_3 u
        rcases u with ⟨f0_count_4, am121_7, am122_10, am123_13, am124_16, am125_19, am126_22⟩
        refine cc_if ?_ ?_
        · exact hpost _ _
        · exact hpost _ _
end
section
/-! printed by gen.py: the law -/
def cz_L_404 (post : Int32 → St0 → Bool) (mc : Nat) (ms : Nat) (z0 : Int32) (z1 : Int32) (kc : Nat) (ks : Nat) (fm0_count : Int32) (am3901 : Nat → Int32) (am3902 : Nat → Int32) (am3903 : Nat → Int32) (am3904 : Nat → Int32) (am3905 : Nat → Int32) (am3906 : Nat → Int32) : Bool := (if z1 = z0 then cz_p_strong (fun r_142 u => match u with | (fm0_count_143, am4101_146, am4102_149, am4103_152, am4104_155, am4105_158, am4106_161) => (if r_142 = 1 then post 1 () else post 0 ())) (fm0_count, am3901, am3902, am3903, am3904, am3905, am3906) 1 else post 0 ())
theorem cc_L_404 {post : Int32 → St0 → Prop} {bpost : Int32 → St0 → Bool} (hpost : ∀ v0 v1, bpost v0 v1 = true → post v0 v1) {mc : Nat} {ms : Nat} {z0 : Int32} {z1 : Int32} {kc : Nat} {ks : Nat} {fm0_count : Int32} {am3901 : Nat → Int32} {am3902 : Nat → Int32} {am3903 : Nat → Int32} {am3904 : Nat → Int32} {am3905 : Nat → Int32} {am3906 : Nat → Int32} : cz_L_404 bpost mc ms z0 z1 kc ks fm0_count am3901 am3902 am3903 am3904 am3905 am3906 = true → wL_lawOf_404 post mc ms z0 z1 kc ks fm0_count am3901 am3902 am3903 am3904 am3905 am3906 := by
  refine cc_if ?_ ?_
  · refine cc_p_strong ?_
    · intro r_142 u
      rcases u with ⟨fm0_count_143, am4101_146, am4102_149, am4103_152, am4104_155, am4105_158, am4106_161⟩
      refine cc_if ?_ ?_
      · exact hpost _ _
      · exact hpost _ _
  · exact hpost _ _
def cz_L_385 (post : Int32 → St0 → Bool) (mc : Nat) (ms : Nat) (x16 : Int32) (z0 : Int32) (z1 : Int32) (kc : Nat) (ks : Nat) (fm0_count : Int32) (am1281 : Nat → Int32) (am1282 : Nat → Int32) (am1283 : Nat → Int32) (am1284 : Nat → Int32) (am1285 : Nat → Int32) (am1286 : Nat → Int32) : Bool := (if z1 = z0 then cz_p_sound (fun r_120 u => match u with | (fm0_count_121, am3901_124, am3902_127, am3903_130, am3904_133, am3905_136, am3906_139) => (if x16 = 0 then cz_L_404 post mc ms 7 r_120 kc ks fm0_count_121 am3901_124 am3902_127 am3903_130 am3904_133 am3905_136 am3906_139 else cz_L_404 post mc ms 0 r_120 kc ks fm0_count_121 am3901_124 am3902_127 am3903_130 am3904_133 am3905_136 am3906_139)) (fm0_count, am1281, am1282, am1283, am1284, am1285, am1286) else post 0 ())
theorem cc_L_385 {post : Int32 → St0 → Prop} {bpost : Int32 → St0 → Bool} (hpost : ∀ v0 v1, bpost v0 v1 = true → post v0 v1) {mc : Nat} {ms : Nat} {x16 : Int32} {z0 : Int32} {z1 : Int32} {kc : Nat} {ks : Nat} {fm0_count : Int32} {am1281 : Nat → Int32} {am1282 : Nat → Int32} {am1283 : Nat → Int32} {am1284 : Nat → Int32} {am1285 : Nat → Int32} {am1286 : Nat → Int32} : cz_L_385 bpost mc ms x16 z0 z1 kc ks fm0_count am1281 am1282 am1283 am1284 am1285 am1286 = true → wL_lawOf_385 post mc ms x16 z0 z1 kc ks fm0_count am1281 am1282 am1283 am1284 am1285 am1286 := by
  refine cc_if ?_ ?_
  · refine cc_p_sound ?_
    · intro r_120 u
      rcases u with ⟨fm0_count_121, am3901_124, am3902_127, am3903_130, am3904_133, am3905_136, am3906_139⟩
      refine cc_if ?_ ?_
      · exact cc_L_404 hpost
      · exact cc_L_404 hpost
  · exact hpost _ _
def cz_L_367 (post : Int32 → St0 → Bool) (mc : Nat) (ms : Nat) (z0 : Int32) (kc : Nat) (ks : Nat) (fm0_count : Int32) (am1281 : Nat → Int32) (am1282 : Nat → Int32) (am1283 : Nat → Int32) (am1284 : Nat → Int32) (am1285 : Nat → Int32) (am1286 : Nat → Int32) : Bool := cz_p_weak (fun r_117 => (if z0 = 0 then cz_L_385 post mc ms z0 1 r_117 kc ks fm0_count am1281 am1282 am1283 am1284 am1285 am1286 else cz_L_385 post mc ms z0 0 r_117 kc ks fm0_count am1281 am1282 am1283 am1284 am1285 am1286)) (fm0_count, am1281, am1282, am1283, am1284, am1285, am1286) 2
theorem cc_L_367 {post : Int32 → St0 → Prop} {bpost : Int32 → St0 → Bool} (hpost : ∀ v0 v1, bpost v0 v1 = true → post v0 v1) {mc : Nat} {ms : Nat} {z0 : Int32} {kc : Nat} {ks : Nat} {fm0_count : Int32} {am1281 : Nat → Int32} {am1282 : Nat → Int32} {am1283 : Nat → Int32} {am1284 : Nat → Int32} {am1285 : Nat → Int32} {am1286 : Nat → Int32} : cz_L_367 bpost mc ms z0 kc ks fm0_count am1281 am1282 am1283 am1284 am1285 am1286 = true → wL_lawOf_367 post mc ms z0 kc ks fm0_count am1281 am1282 am1283 am1284 am1285 am1286 := by
  refine cc_p_weak ?_
  · intro r_117
    refine cc_if ?_ ?_
    · exact cc_L_385 hpost
    · exact cc_L_385 hpost
def cz_L_366 (post : Int32 → St0 → Bool) (mc : Nat) (ms : Nat) (kc : Nat) (ks : Nat) (fm0_count : Int32) (am1281 : Nat → Int32) (am1282 : Nat → Int32) (am1283 : Nat → Int32) (am1284 : Nat → Int32) (am1285 : Nat → Int32) (am1286 : Nat → Int32) : Bool := cz_L_367 post mc ms 0 kc ks fm0_count am1281 am1282 am1283 am1284 am1285 am1286
theorem cc_L_366 {post : Int32 → St0 → Prop} {bpost : Int32 → St0 → Bool} (hpost : ∀ v0 v1, bpost v0 v1 = true → post v0 v1) {mc : Nat} {ms : Nat} {kc : Nat} {ks : Nat} {fm0_count : Int32} {am1281 : Nat → Int32} {am1282 : Nat → Int32} {am1283 : Nat → Int32} {am1284 : Nat → Int32} {am1285 : Nat → Int32} {am1286 : Nat → Int32} : cz_L_366 bpost mc ms kc ks fm0_count am1281 am1282 am1283 am1284 am1285 am1286 = true → wL_lawOf_366 post mc ms kc ks fm0_count am1281 am1282 am1283 am1284 am1285 am1286 := by
  exact cc_L_367 hpost
def cz_L_336 (post : Int32 → St0 → Bool) (mc : Nat) (ms : Nat) (kc : Nat) (ks : Nat) (fm0_count : Int32) (am1281 : Nat → Int32) (am1282 : Nat → Int32) (am1283 : Nat → Int32) (am1284 : Nat → Int32) (am1285 : Nat → Int32) (am1286 : Nat → Int32) : Bool := cz_L_367 post mc ms 0 kc ks fm0_count am1281 am1282 am1283 am1284 am1285 am1286
theorem cc_L_336 {post : Int32 → St0 → Prop} {bpost : Int32 → St0 → Bool} (hpost : ∀ v0 v1, bpost v0 v1 = true → post v0 v1) {mc : Nat} {ms : Nat} {kc : Nat} {ks : Nat} {fm0_count : Int32} {am1281 : Nat → Int32} {am1282 : Nat → Int32} {am1283 : Nat → Int32} {am1284 : Nat → Int32} {am1285 : Nat → Int32} {am1286 : Nat → Int32} : cz_L_336 bpost mc ms kc ks fm0_count am1281 am1282 am1283 am1284 am1285 am1286 = true → wL_lawOf_336 post mc ms kc ks fm0_count am1281 am1282 am1283 am1284 am1285 am1286 := by
  exact cc_L_367 hpost
def cz_L_332 (post : Int32 → St0 → Bool) (mc : Nat) (ms : Nat) (kc : Nat) (ks : Nat) (fm0_count : Int32) (am1281 : Nat → Int32) (am1282 : Nat → Int32) (am1283 : Nat → Int32) (am1284 : Nat → Int32) (am1285 : Nat → Int32) (am1286 : Nat → Int32) : Bool := cz_L_367 post mc ms 1 kc ks fm0_count am1281 am1282 am1283 am1284 am1285 am1286
theorem cc_L_332 {post : Int32 → St0 → Prop} {bpost : Int32 → St0 → Bool} (hpost : ∀ v0 v1, bpost v0 v1 = true → post v0 v1) {mc : Nat} {ms : Nat} {kc : Nat} {ks : Nat} {fm0_count : Int32} {am1281 : Nat → Int32} {am1282 : Nat → Int32} {am1283 : Nat → Int32} {am1284 : Nat → Int32} {am1285 : Nat → Int32} {am1286 : Nat → Int32} : cz_L_332 bpost mc ms kc ks fm0_count am1281 am1282 am1283 am1284 am1285 am1286 = true → wL_lawOf_332 post mc ms kc ks fm0_count am1281 am1282 am1283 am1284 am1285 am1286 := by
  exact cc_L_367 hpost
def cz_L_320 (post : Int32 → St0 → Bool) (mc : Nat) (ms : Nat) (x10 : Int32) (x11 : Int32) (x14 : Int32) (kc : Nat) (ks : Nat) (fm0_count : Int32) (am1281 : Nat → Int32) (am1282 : Nat → Int32) (am1283 : Nat → Int32) (am1284 : Nat → Int32) (am1285 : Nat → Int32) (am1286 : Nat → Int32) : Bool := (if x14 = 0 then cz_L_336 post mc ms kc ks fm0_count am1281 am1282 am1283 am1284 am1285 am1286 else (if x10 = x11 then cz_L_332 post mc ms kc ks fm0_count am1281 am1282 am1283 am1284 am1285 am1286 else cz_L_336 post mc ms kc ks fm0_count am1281 am1282 am1283 am1284 am1285 am1286))
theorem cc_L_320 {post : Int32 → St0 → Prop} {bpost : Int32 → St0 → Bool} (hpost : ∀ v0 v1, bpost v0 v1 = true → post v0 v1) {mc : Nat} {ms : Nat} {x10 : Int32} {x11 : Int32} {x14 : Int32} {kc : Nat} {ks : Nat} {fm0_count : Int32} {am1281 : Nat → Int32} {am1282 : Nat → Int32} {am1283 : Nat → Int32} {am1284 : Nat → Int32} {am1285 : Nat → Int32} {am1286 : Nat → Int32} : cz_L_320 bpost mc ms x10 x11 x14 kc ks fm0_count am1281 am1282 am1283 am1284 am1285 am1286 = true → wL_lawOf_320 post mc ms x10 x11 x14 kc ks fm0_count am1281 am1282 am1283 am1284 am1285 am1286 := by
  refine cc_if ?_ ?_
  · exact cc_L_336 hpost
  · refine cc_if ?_ ?_
    · exact cc_L_332 hpost
    · exact cc_L_336 hpost
def cz_L_297 (post : Int32 → St0 → Bool) (mc : Nat) (ms : Nat) (x4 : Int32) (x9 : Int32) (x10 : Int32) (x11 : Int32) (x13 : Int32) (x14 : Int32) (x15 : Int32) (z0 : Int32) (z1 : Int32) (kc : Nat) (ks : Nat) (fm0_count : Int32) (am1281 : Nat → Int32) (am1282 : Nat → Int32) (am1283 : Nat → Int32) (am1284 : Nat → Int32) (am1285 : Nat → Int32) (am1286 : Nat → Int32) : Bool := (if z1 = z0 then (if x4 = (-1) then (if x15 = 0 then cz_L_320 post mc ms x10 x11 x14 kc ks fm0_count am1281 am1282 am1283 am1284 am1285 am1286 else (if x9 = x11 then cz_L_332 post mc ms kc ks fm0_count am1281 am1282 am1283 am1284 am1285 am1286 else cz_L_320 post mc ms x10 x11 x14 kc ks fm0_count am1281 am1282 am1283 am1284 am1285 am1286)) else (if x4 = 0 then (if x13 = 0 then cz_L_366 post mc ms kc ks fm0_count am1281 am1282 am1283 am1284 am1285 am1286 else (if x14 = 0 then cz_L_366 post mc ms kc ks fm0_count am1281 am1282 am1283 am1284 am1285 am1286 else (if x10 = x11 then cz_L_367 post mc ms 1 kc ks fm0_count am1281 am1282 am1283 am1284 am1285 am1286 else cz_L_366 post mc ms kc ks fm0_count am1281 am1282 am1283 am1284 am1285 am1286))) else cz_L_366 post mc ms kc ks fm0_count am1281 am1282 am1283 am1284 am1285 am1286)) else post 0 ())
theorem cc_L_297 {post : Int32 → St0 → Prop} {bpost : Int32 → St0 → Bool} (hpost : ∀ v0 v1, bpost v0 v1 = true → post v0 v1) {mc : Nat} {ms : Nat} {x4 : Int32} {x9 : Int32} {x10 : Int32} {x11 : Int32} {x13 : Int32} {x14 : Int32} {x15 : Int32} {z0 : Int32} {z1 : Int32} {kc : Nat} {ks : Nat} {fm0_count : Int32} {am1281 : Nat → Int32} {am1282 : Nat → Int32} {am1283 : Nat → Int32} {am1284 : Nat → Int32} {am1285 : Nat → Int32} {am1286 : Nat → Int32} : cz_L_297 bpost mc ms x4 x9 x10 x11 x13 x14 x15 z0 z1 kc ks fm0_count am1281 am1282 am1283 am1284 am1285 am1286 = true → wL_lawOf_297 post mc ms x4 x9 x10 x11 x13 x14 x15 z0 z1 kc ks fm0_count am1281 am1282 am1283 am1284 am1285 am1286 := by
  refine cc_if ?_ ?_
  · refine cc_if ?_ ?_
    · refine cc_if ?_ ?_
      · exact cc_L_320 hpost
      · refine cc_if ?_ ?_
        · exact cc_L_332 hpost
        · exact cc_L_320 hpost
    · refine cc_if ?_ ?_
      · refine cc_if ?_ ?_
        · exact cc_L_366 hpost
        · refine cc_if ?_ ?_
          · exact cc_L_366 hpost
          · refine cc_if ?_ ?_
            · exact cc_L_367 hpost
            · exact cc_L_366 hpost
      · exact cc_L_366 hpost
  · exact hpost _ _
def cz_L_277 (post : Int32 → St0 → Bool) (mc : Nat) (ms : Nat) (x4 : Int32) (x9 : Int32) (x10 : Int32) (x11 : Int32) (x13 : Int32) (x14 : Int32) (x15 : Int32) (z0 : Int32) (z1 : Int32) (kc : Nat) (ks : Nat) (fm0_count : Int32) (am1281 : Nat → Int32) (am1282 : Nat → Int32) (am1283 : Nat → Int32) (am1284 : Nat → Int32) (am1285 : Nat → Int32) (am1286 : Nat → Int32) : Bool := (if z1 = z0 then cz_p_before (fun r_112 => (if x14 = 0 then cz_L_297 post mc ms x4 x9 x10 x11 x13 x14 x15 0 r_112 kc ks fm0_count am1281 am1282 am1283 am1284 am1285 am1286 else cz_L_297 post mc ms x4 x9 x10 x11 x13 x14 x15 1 r_112 kc ks fm0_count am1281 am1282 am1283 am1284 am1285 am1286)) (fm0_count, am1281, am1282, am1283, am1284, am1285, am1286) 1 2 else post 0 ())
theorem cc_L_277 {post : Int32 → St0 → Prop} {bpost : Int32 → St0 → Bool} (hpost : ∀ v0 v1, bpost v0 v1 = true → post v0 v1) {mc : Nat} {ms : Nat} {x4 : Int32} {x9 : Int32} {x10 : Int32} {x11 : Int32} {x13 : Int32} {x14 : Int32} {x15 : Int32} {z0 : Int32} {z1 : Int32} {kc : Nat} {ks : Nat} {fm0_count : Int32} {am1281 : Nat → Int32} {am1282 : Nat → Int32} {am1283 : Nat → Int32} {am1284 : Nat → Int32} {am1285 : Nat → Int32} {am1286 : Nat → Int32} : cz_L_277 bpost mc ms x4 x9 x10 x11 x13 x14 x15 z0 z1 kc ks fm0_count am1281 am1282 am1283 am1284 am1285 am1286 = true → wL_lawOf_277 post mc ms x4 x9 x10 x11 x13 x14 x15 z0 z1 kc ks fm0_count am1281 am1282 am1283 am1284 am1285 am1286 := by
  refine cc_if ?_ ?_
  · refine cc_p_before ?_
    · intro r_112
      refine cc_if ?_ ?_
      · exact cc_L_297 hpost
      · exact cc_L_297 hpost
  · exact hpost _ _
def cz_L_257 (post : Int32 → St0 → Bool) (mc : Nat) (ms : Nat) (x4 : Int32) (x9 : Int32) (x10 : Int32) (x11 : Int32) (x13 : Int32) (x14 : Int32) (x15 : Int32) (z0 : Int32) (z1 : Int32) (kc : Nat) (ks : Nat) (fm0_count : Int32) (am1281 : Nat → Int32) (am1282 : Nat → Int32) (am1283 : Nat → Int32) (am1284 : Nat → Int32) (am1285 : Nat → Int32) (am1286 : Nat → Int32) : Bool := (if z1 = z0 then cz_p_before (fun r_109 => (if x15 = 0 then cz_L_277 post mc ms x4 x9 x10 x11 x13 x14 x15 0 r_109 kc ks fm0_count am1281 am1282 am1283 am1284 am1285 am1286 else cz_L_277 post mc ms x4 x9 x10 x11 x13 x14 x15 1 r_109 kc ks fm0_count am1281 am1282 am1283 am1284 am1285 am1286)) (fm0_count, am1281, am1282, am1283, am1284, am1285, am1286) 0 2 else post 0 ())
theorem cc_L_257 {post : Int32 → St0 → Prop} {bpost : Int32 → St0 → Bool} (hpost : ∀ v0 v1, bpost v0 v1 = true → post v0 v1) {mc : Nat} {ms : Nat} {x4 : Int32} {x9 : Int32} {x10 : Int32} {x11 : Int32} {x13 : Int32} {x14 : Int32} {x15 : Int32} {z0 : Int32} {z1 : Int32} {kc : Nat} {ks : Nat} {fm0_count : Int32} {am1281 : Nat → Int32} {am1282 : Nat → Int32} {am1283 : Nat → Int32} {am1284 : Nat → Int32} {am1285 : Nat → Int32} {am1286 : Nat → Int32} : cz_L_257 bpost mc ms x4 x9 x10 x11 x13 x14 x15 z0 z1 kc ks fm0_count am1281 am1282 am1283 am1284 am1285 am1286 = true → wL_lawOf_257 post mc ms x4 x9 x10 x11 x13 x14 x15 z0 z1 kc ks fm0_count am1281 am1282 am1283 am1284 am1285 am1286 := by
  refine cc_if ?_ ?_
  · refine cc_p_before ?_
    · intro r_109
      refine cc_if ?_ ?_
      · exact cc_L_277 hpost
      · exact cc_L_277 hpost
  · exact hpost _ _
def cz_L_238 (post : Int32 → St0 → Bool) (mc : Nat) (ms : Nat) (x4 : Int32) (x9 : Int32) (x10 : Int32) (x11 : Int32) (x13 : Int32) (x14 : Int32) (z0 : Int32) (kc : Nat) (ks : Nat) (fm0_count : Int32) (am1281 : Nat → Int32) (am1282 : Nat → Int32) (am1283 : Nat → Int32) (am1284 : Nat → Int32) (am1285 : Nat → Int32) (am1286 : Nat → Int32) : Bool := cz_p_before (fun r_106 => (if x13 = 0 then cz_L_257 post mc ms x4 x9 x10 x11 x13 x14 z0 0 r_106 kc ks fm0_count am1281 am1282 am1283 am1284 am1285 am1286 else cz_L_257 post mc ms x4 x9 x10 x11 x13 x14 z0 1 r_106 kc ks fm0_count am1281 am1282 am1283 am1284 am1285 am1286)) (fm0_count, am1281, am1282, am1283, am1284, am1285, am1286) 0 1
theorem cc_L_238 {post : Int32 → St0 → Prop} {bpost : Int32 → St0 → Bool} (hpost : ∀ v0 v1, bpost v0 v1 = true → post v0 v1) {mc : Nat} {ms : Nat} {x4 : Int32} {x9 : Int32} {x10 : Int32} {x11 : Int32} {x13 : Int32} {x14 : Int32} {z0 : Int32} {kc : Nat} {ks : Nat} {fm0_count : Int32} {am1281 : Nat → Int32} {am1282 : Nat → Int32} {am1283 : Nat → Int32} {am1284 : Nat → Int32} {am1285 : Nat → Int32} {am1286 : Nat → Int32} : cz_L_238 bpost mc ms x4 x9 x10 x11 x13 x14 z0 kc ks fm0_count am1281 am1282 am1283 am1284 am1285 am1286 = true → wL_lawOf_238 post mc ms x4 x9 x10 x11 x13 x14 z0 kc ks fm0_count am1281 am1282 am1283 am1284 am1285 am1286 := by
  refine cc_p_before ?_
  · intro r_106
    refine cc_if ?_ ?_
    · exact cc_L_257 hpost
    · exact cc_L_257 hpost
def cz_L_233 (post : Int32 → St0 → Bool) (mc : Nat) (ms : Nat) (x4 : Int32) (x9 : Int32) (x10 : Int32) (x11 : Int32) (x13 : Int32) (x14 : Int32) (kc : Nat) (ks : Nat) (fm0_count : Int32) (am1281 : Nat → Int32) (am1282 : Nat → Int32) (am1283 : Nat → Int32) (am1284 : Nat → Int32) (am1285 : Nat → Int32) (am1286 : Nat → Int32) : Bool := cz_L_238 post mc ms x4 x9 x10 x11 x13 x14 1 kc ks fm0_count am1281 am1282 am1283 am1284 am1285 am1286
theorem cc_L_233 {post : Int32 → St0 → Prop} {bpost : Int32 → St0 → Bool} (hpost : ∀ v0 v1, bpost v0 v1 = true → post v0 v1) {mc : Nat} {ms : Nat} {x4 : Int32} {x9 : Int32} {x10 : Int32} {x11 : Int32} {x13 : Int32} {x14 : Int32} {kc : Nat} {ks : Nat} {fm0_count : Int32} {am1281 : Nat → Int32} {am1282 : Nat → Int32} {am1283 : Nat → Int32} {am1284 : Nat → Int32} {am1285 : Nat → Int32} {am1286 : Nat → Int32} : cz_L_233 bpost mc ms x4 x9 x10 x11 x13 x14 kc ks fm0_count am1281 am1282 am1283 am1284 am1285 am1286 = true → wL_lawOf_233 post mc ms x4 x9 x10 x11 x13 x14 kc ks fm0_count am1281 am1282 am1283 am1284 am1285 am1286 := by
  exact cc_L_238 hpost
def cz_L_237 (post : Int32 → St0 → Bool) (mc : Nat) (ms : Nat) (x4 : Int32) (x9 : Int32) (x10 : Int32) (x11 : Int32) (x13 : Int32) (x14 : Int32) (kc : Nat) (ks : Nat) (fm0_count : Int32) (am1281 : Nat → Int32) (am1282 : Nat → Int32) (am1283 : Nat → Int32) (am1284 : Nat → Int32) (am1285 : Nat → Int32) (am1286 : Nat → Int32) : Bool := cz_L_238 post mc ms x4 x9 x10 x11 x13 x14 0 kc ks fm0_count am1281 am1282 am1283 am1284 am1285 am1286
theorem cc_L_237 {post : Int32 → St0 → Prop} {bpost : Int32 → St0 → Bool} (hpost : ∀ v0 v1, bpost v0 v1 = true → post v0 v1) {mc : Nat} {ms : Nat} {x4 : Int32} {x9 : Int32} {x10 : Int32} {x11 : Int32} {x13 : Int32} {x14 : Int32} {kc : Nat} {ks : Nat} {fm0_count : Int32} {am1281 : Nat → Int32} {am1282 : Nat → Int32} {am1283 : Nat → Int32} {am1284 : Nat → Int32} {am1285 : Nat → Int32} {am1286 : Nat → Int32} : cz_L_237 bpost mc ms x4 x9 x10 x11 x13 x14 kc ks fm0_count am1281 am1282 am1283 am1284 am1285 am1286 = true → wL_lawOf_237 post mc ms x4 x9 x10 x11 x13 x14 kc ks fm0_count am1281 am1282 am1283 am1284 am1285 am1286 := by
  exact cc_L_238 hpost
def cz_L_209 (post : Int32 → St0 → Bool) (mc : Nat) (ms : Nat) (x4 : Int32) (x6 : Int32) (x8 : Int32) (x9 : Int32) (x10 : Int32) (x11 : Int32) (x13 : Int32) (z0 : Int32) (kc : Nat) (ks : Nat) (fm0_count : Int32) (am1281 : Nat → Int32) (am1282 : Nat → Int32) (am1283 : Nat → Int32) (am1284 : Nat → Int32) (am1285 : Nat → Int32) (am1286 : Nat → Int32) : Bool := (if x4 = 0 then cz_L_233 post mc ms x4 x9 x10 x11 x13 z0 kc ks fm0_count am1281 am1282 am1283 am1284 am1285 am1286 else (if x6 = x8 then cz_L_233 post mc ms x4 x9 x10 x11 x13 z0 kc ks fm0_count am1281 am1282 am1283 am1284 am1285 am1286 else (if z0 = 0 then cz_L_237 post mc ms x4 x9 x10 x11 x13 z0 kc ks fm0_count am1281 am1282 am1283 am1284 am1285 am1286 else (if x13 = 0 then cz_L_237 post mc ms x4 x9 x10 x11 x13 z0 kc ks fm0_count am1281 am1282 am1283 am1284 am1285 am1286 else cz_L_233 post mc ms x4 x9 x10 x11 x13 z0 kc ks fm0_count am1281 am1282 am1283 am1284 am1285 am1286))))
theorem cc_L_209 {post : Int32 → St0 → Prop} {bpost : Int32 → St0 → Bool} (hpost : ∀ v0 v1, bpost v0 v1 = true → post v0 v1) {mc : Nat} {ms : Nat} {x4 : Int32} {x6 : Int32} {x8 : Int32} {x9 : Int32} {x10 : Int32} {x11 : Int32} {x13 : Int32} {z0 : Int32} {kc : Nat} {ks : Nat} {fm0_count : Int32} {am1281 : Nat → Int32} {am1282 : Nat → Int32} {am1283 : Nat → Int32} {am1284 : Nat → Int32} {am1285 : Nat → Int32} {am1286 : Nat → Int32} : cz_L_209 bpost mc ms x4 x6 x8 x9 x10 x11 x13 z0 kc ks fm0_count am1281 am1282 am1283 am1284 am1285 am1286 = true → wL_lawOf_209 post mc ms x4 x6 x8 x9 x10 x11 x13 z0 kc ks fm0_count am1281 am1282 am1283 am1284 am1285 am1286 := by
  refine cc_if ?_ ?_
  · exact cc_L_233 hpost
  · refine cc_if ?_ ?_
    · exact cc_L_233 hpost
    · refine cc_if ?_ ?_
      · exact cc_L_237 hpost
      · refine cc_if ?_ ?_
        · exact cc_L_237 hpost
        · exact cc_L_233 hpost
def cz_L_204 (post : Int32 → St0 → Bool) (mc : Nat) (ms : Nat) (x4 : Int32) (x6 : Int32) (x8 : Int32) (x9 : Int32) (x10 : Int32) (x11 : Int32) (x13 : Int32) (kc : Nat) (ks : Nat) (fm0_count : Int32) (am1281 : Nat → Int32) (am1282 : Nat → Int32) (am1283 : Nat → Int32) (am1284 : Nat → Int32) (am1285 : Nat → Int32) (am1286 : Nat → Int32) : Bool := cz_L_209 post mc ms x4 x6 x8 x9 x10 x11 x13 1 kc ks fm0_count am1281 am1282 am1283 am1284 am1285 am1286
theorem cc_L_204 {post : Int32 → St0 → Prop} {bpost : Int32 → St0 → Bool} (hpost : ∀ v0 v1, bpost v0 v1 = true → post v0 v1) {mc : Nat} {ms : Nat} {x4 : Int32} {x6 : Int32} {x8 : Int32} {x9 : Int32} {x10 : Int32} {x11 : Int32} {x13 : Int32} {kc : Nat} {ks : Nat} {fm0_count : Int32} {am1281 : Nat → Int32} {am1282 : Nat → Int32} {am1283 : Nat → Int32} {am1284 : Nat → Int32} {am1285 : Nat → Int32} {am1286 : Nat → Int32} : cz_L_204 bpost mc ms x4 x6 x8 x9 x10 x11 x13 kc ks fm0_count am1281 am1282 am1283 am1284 am1285 am1286 = true → wL_lawOf_204 post mc ms x4 x6 x8 x9 x10 x11 x13 kc ks fm0_count am1281 am1282 am1283 am1284 am1285 am1286 := by
  exact cc_L_209 hpost
def cz_L_189 (post : Int32 → St0 → Bool) (mc : Nat) (ms : Nat) (x4 : Int32) (x6 : Int32) (x7 : Int32) (x8 : Int32) (x9 : Int32) (x10 : Int32) (x11 : Int32) (z0 : Int32) (kc : Nat) (ks : Nat) (fm0_count : Int32) (am1281 : Nat → Int32) (am1282 : Nat → Int32) (am1283 : Nat → Int32) (am1284 : Nat → Int32) (am1285 : Nat → Int32) (am1286 : Nat → Int32) : Bool := (if x4 = 1 then cz_L_204 post mc ms x4 x6 x8 x9 x10 x11 z0 kc ks fm0_count am1281 am1282 am1283 am1284 am1285 am1286 else (if x7 = x8 then cz_L_204 post mc ms x4 x6 x8 x9 x10 x11 z0 kc ks fm0_count am1281 am1282 am1283 am1284 am1285 am1286 else cz_L_209 post mc ms x4 x6 x8 x9 x10 x11 z0 0 kc ks fm0_count am1281 am1282 am1283 am1284 am1285 am1286))
theorem cc_L_189 {post : Int32 → St0 → Prop} {bpost : Int32 → St0 → Bool} (hpost : ∀ v0 v1, bpost v0 v1 = true → post v0 v1) {mc : Nat} {ms : Nat} {x4 : Int32} {x6 : Int32} {x7 : Int32} {x8 : Int32} {x9 : Int32} {x10 : Int32} {x11 : Int32} {z0 : Int32} {kc : Nat} {ks : Nat} {fm0_count : Int32} {am1281 : Nat → Int32} {am1282 : Nat → Int32} {am1283 : Nat → Int32} {am1284 : Nat → Int32} {am1285 : Nat → Int32} {am1286 : Nat → Int32} : cz_L_189 bpost mc ms x4 x6 x7 x8 x9 x10 x11 z0 kc ks fm0_count am1281 am1282 am1283 am1284 am1285 am1286 = true → wL_lawOf_189 post mc ms x4 x6 x7 x8 x9 x10 x11 z0 kc ks fm0_count am1281 am1282 am1283 am1284 am1285 am1286 := by
  refine cc_if ?_ ?_
  · exact cc_L_204 hpost
  · refine cc_if ?_ ?_
    · exact cc_L_204 hpost
    · exact cc_L_209 hpost
def cz_L_141 (post : Int32 → St0 → Bool) (mc : Nat) (ms : Nat) (x4 : Int32) (x6 : Int32) (x7 : Int32) (x8 : Int32) (x9 : Int32) (x10 : Int32) (x11 : Int32) (x12 : Int32) (z0 : Int32) (z1 : Int32) (kc : Nat) (ks : Nat) (fm0_count : Int32) (am1281 : Nat → Int32) (am1282 : Nat → Int32) (am1283 : Nat → Int32) (am1284 : Nat → Int32) (am1285 : Nat → Int32) (am1286 : Nat → Int32) : Bool := (if z1 = z0 then (if x12 = 0 then cz_p_sound (fun r_174 u => match u with | (fm0_count_175, am1531_178, am1532_181, am1533_184, am1534_187, am1535_190, am1536_193) => (if r_174 = 7 then cz_p_weak (fun r_195 => (if r_195 = (-1) then post 1 () else post 0 ())) (fm0_count_175, am1531_178, am1532_181, am1533_184, am1534_187, am1535_190, am1536_193) 2 else post 0 ())) (fm0_count, am1281, am1282, am1283, am1284, am1285, am1286) else (if x6 = x7 then cz_L_189 post mc ms x4 x6 x7 x8 x9 x10 x11 1 kc ks fm0_count am1281 am1282 am1283 am1284 am1285 am1286 else cz_L_189 post mc ms x4 x6 x7 x8 x9 x10 x11 0 kc ks fm0_count am1281 am1282 am1283 am1284 am1285 am1286)) else post 0 ())
theorem cc_L_141 {post : Int32 → St0 → Prop} {bpost : Int32 → St0 → Bool} (hpost : ∀ v0 v1, bpost v0 v1 = true → post v0 v1) {mc : Nat} {ms : Nat} {x4 : Int32} {x6 : Int32} {x7 : Int32} {x8 : Int32} {x9 : Int32} {x10 : Int32} {x11 : Int32} {x12 : Int32} {z0 : Int32} {z1 : Int32} {kc : Nat} {ks : Nat} {fm0_count : Int32} {am1281 : Nat → Int32} {am1282 : Nat → Int32} {am1283 : Nat → Int32} {am1284 : Nat → Int32} {am1285 : Nat → Int32} {am1286 : Nat → Int32} : cz_L_141 bpost mc ms x4 x6 x7 x8 x9 x10 x11 x12 z0 z1 kc ks fm0_count am1281 am1282 am1283 am1284 am1285 am1286 = true → wL_lawOf_141 post mc ms x4 x6 x7 x8 x9 x10 x11 x12 z0 z1 kc ks fm0_count am1281 am1282 am1283 am1284 am1285 am1286 := by
  refine cc_if ?_ ?_
  · refine cc_if ?_ ?_
    · refine cc_p_sound ?_
      · intro r_174 u
        rcases u with ⟨fm0_count_175, am1531_178, am1532_181, am1533_184, am1534_187, am1535_190, am1536_193⟩
        refine cc_if ?_ ?_
        · refine cc_p_weak ?_
          · intro r_195
            refine cc_if ?_ ?_
            · exact hpost _ _
            · exact hpost _ _
        · exact hpost _ _
    · refine cc_if ?_ ?_
      · exact cc_L_189 hpost
      · exact cc_L_189 hpost
  · exact hpost _ _
def cz_L_118 (post : Int32 → St0 → Bool) (mc : Nat) (ms : Nat) (x4 : Int32) (x6 : Int32) (x7 : Int32) (x8 : Int32) (x9 : Int32) (x10 : Int32) (x11 : Int32) (z0 : Int32) (kc : Nat) (ks : Nat) (fm0_count : Int32) (am731 : Nat → Int32) (am732 : Nat → Int32) (am733 : Nat → Int32) (am734 : Nat → Int32) (am735 : Nat → Int32) (am736 : Nat → Int32) : Bool := cz_p_read (fun r_80 u => match u with | (fm0_count_81, am1281_84, am1282_87, am1283_90, am1284_93, am1285_96, am1286_99) => (if z0 = 0 then cz_L_141 post mc ms x4 x6 x7 x8 x9 x10 x11 z0 (-1) r_80 kc ks fm0_count_81 am1281_84 am1282_87 am1283_90 am1284_93 am1285_96 am1286_99 else cz_L_141 post mc ms x4 x6 x7 x8 x9 x10 x11 z0 2 r_80 kc ks fm0_count_81 am1281_84 am1282_87 am1283_90 am1284_93 am1285_96 am1286_99)) (fm0_count, am731, am732, am733, am734, am735, am736) x8 x11 x4
theorem cc_L_118 {post : Int32 → St0 → Prop} {bpost : Int32 → St0 → Bool} (hpost : ∀ v0 v1, bpost v0 v1 = true → post v0 v1) {mc : Nat} {ms : Nat} {x4 : Int32} {x6 : Int32} {x7 : Int32} {x8 : Int32} {x9 : Int32} {x10 : Int32} {x11 : Int32} {z0 : Int32} {kc : Nat} {ks : Nat} {fm0_count : Int32} {am731 : Nat → Int32} {am732 : Nat → Int32} {am733 : Nat → Int32} {am734 : Nat → Int32} {am735 : Nat → Int32} {am736 : Nat → Int32} : cz_L_118 bpost mc ms x4 x6 x7 x8 x9 x10 x11 z0 kc ks fm0_count am731 am732 am733 am734 am735 am736 = true → wL_lawOf_118 post mc ms x4 x6 x7 x8 x9 x10 x11 z0 kc ks fm0_count am731 am732 am733 am734 am735 am736 := by
  refine cc_p_read ?_
  · intro r_80 u
    rcases u with ⟨fm0_count_81, am1281_84, am1282_87, am1283_90, am1284_93, am1285_96, am1286_99⟩
    refine cc_if ?_ ?_
    · exact cc_L_141 hpost
    · exact cc_L_141 hpost
def cz_L_113 (post : Int32 → St0 → Bool) (mc : Nat) (ms : Nat) (x4 : Int32) (x6 : Int32) (x7 : Int32) (x8 : Int32) (x9 : Int32) (x10 : Int32) (x11 : Int32) (kc : Nat) (ks : Nat) (fm0_count : Int32) (am731 : Nat → Int32) (am732 : Nat → Int32) (am733 : Nat → Int32) (am734 : Nat → Int32) (am735 : Nat → Int32) (am736 : Nat → Int32) : Bool := cz_L_118 post mc ms x4 x6 x7 x8 x9 x10 x11 1 kc ks fm0_count am731 am732 am733 am734 am735 am736
theorem cc_L_113 {post : Int32 → St0 → Prop} {bpost : Int32 → St0 → Bool} (hpost : ∀ v0 v1, bpost v0 v1 = true → post v0 v1) {mc : Nat} {ms : Nat} {x4 : Int32} {x6 : Int32} {x7 : Int32} {x8 : Int32} {x9 : Int32} {x10 : Int32} {x11 : Int32} {kc : Nat} {ks : Nat} {fm0_count : Int32} {am731 : Nat → Int32} {am732 : Nat → Int32} {am733 : Nat → Int32} {am734 : Nat → Int32} {am735 : Nat → Int32} {am736 : Nat → Int32} : cz_L_113 bpost mc ms x4 x6 x7 x8 x9 x10 x11 kc ks fm0_count am731 am732 am733 am734 am735 am736 = true → wL_lawOf_113 post mc ms x4 x6 x7 x8 x9 x10 x11 kc ks fm0_count am731 am732 am733 am734 am735 am736 := by
  exact cc_L_118 hpost
def cz_L_117 (post : Int32 → St0 → Bool) (mc : Nat) (ms : Nat) (x4 : Int32) (x6 : Int32) (x7 : Int32) (x8 : Int32) (x9 : Int32) (x10 : Int32) (x11 : Int32) (kc : Nat) (ks : Nat) (fm0_count : Int32) (am731 : Nat → Int32) (am732 : Nat → Int32) (am733 : Nat → Int32) (am734 : Nat → Int32) (am735 : Nat → Int32) (am736 : Nat → Int32) : Bool := cz_L_118 post mc ms x4 x6 x7 x8 x9 x10 x11 0 kc ks fm0_count am731 am732 am733 am734 am735 am736
theorem cc_L_117 {post : Int32 → St0 → Prop} {bpost : Int32 → St0 → Bool} (hpost : ∀ v0 v1, bpost v0 v1 = true → post v0 v1) {mc : Nat} {ms : Nat} {x4 : Int32} {x6 : Int32} {x7 : Int32} {x8 : Int32} {x9 : Int32} {x10 : Int32} {x11 : Int32} {kc : Nat} {ks : Nat} {fm0_count : Int32} {am731 : Nat → Int32} {am732 : Nat → Int32} {am733 : Nat → Int32} {am734 : Nat → Int32} {am735 : Nat → Int32} {am736 : Nat → Int32} : cz_L_117 bpost mc ms x4 x6 x7 x8 x9 x10 x11 kc ks fm0_count am731 am732 am733 am734 am735 am736 = true → wL_lawOf_117 post mc ms x4 x6 x7 x8 x9 x10 x11 kc ks fm0_count am731 am732 am733 am734 am735 am736 := by
  exact cc_L_118 hpost
def cz_L_100 (post : Int32 → St0 → Bool) (mc : Nat) (ms : Nat) (x4 : Int32) (x6 : Int32) (x7 : Int32) (x8 : Int32) (x9 : Int32) (x10 : Int32) (x11 : Int32) (kc : Nat) (ks : Nat) (fm0_count : Int32) (am731 : Nat → Int32) (am732 : Nat → Int32) (am733 : Nat → Int32) (am734 : Nat → Int32) (am735 : Nat → Int32) (am736 : Nat → Int32) : Bool := (if x4 = 1 then (if x10 = x11 then cz_L_113 post mc ms x4 x6 x7 x8 x9 x10 x11 kc ks fm0_count am731 am732 am733 am734 am735 am736 else cz_L_117 post mc ms x4 x6 x7 x8 x9 x10 x11 kc ks fm0_count am731 am732 am733 am734 am735 am736) else cz_L_117 post mc ms x4 x6 x7 x8 x9 x10 x11 kc ks fm0_count am731 am732 am733 am734 am735 am736)
theorem cc_L_100 {post : Int32 → St0 → Prop} {bpost : Int32 → St0 → Bool} (hpost : ∀ v0 v1, bpost v0 v1 = true → post v0 v1) {mc : Nat} {ms : Nat} {x4 : Int32} {x6 : Int32} {x7 : Int32} {x8 : Int32} {x9 : Int32} {x10 : Int32} {x11 : Int32} {kc : Nat} {ks : Nat} {fm0_count : Int32} {am731 : Nat → Int32} {am732 : Nat → Int32} {am733 : Nat → Int32} {am734 : Nat → Int32} {am735 : Nat → Int32} {am736 : Nat → Int32} : cz_L_100 bpost mc ms x4 x6 x7 x8 x9 x10 x11 kc ks fm0_count am731 am732 am733 am734 am735 am736 = true → wL_lawOf_100 post mc ms x4 x6 x7 x8 x9 x10 x11 kc ks fm0_count am731 am732 am733 am734 am735 am736 := by
  refine cc_if ?_ ?_
  · refine cc_if ?_ ?_
    · exact cc_L_113 hpost
    · exact cc_L_117 hpost
  · exact cc_L_117 hpost
def cz_top (post : Int32 → St0 → Bool) (mc ms : Nat) (x6 x7 x8 x9 x10 x11 p4 : Int32) (mk sk : Nat) : Bool := cz_p_write (fun r_37 u => match u with | (fm0_count_38, am611_41, am612_44, am613_47, am614_50, am615_53, am616_56) => (if r_37 = 0 then cz_p_write (fun r_58 u => match u with | (fm0_count_59, am731_62, am732_65, am733_68, am734_71, am735_74, am736_77) => (if r_58 = 1 then (if p4 = (-1) then cz_L_113 post mc ms p4 x6 x7 x8 x9 x10 x11 mk sk fm0_count_59 am731_62 am732_65 am733_68 am734_71 am735_74 am736_77 else (if p4 = 0 then (if x9 = x11 then cz_L_113 post mc ms p4 x6 x7 x8 x9 x10 x11 mk sk fm0_count_59 am731_62 am732_65 am733_68 am734_71 am735_74 am736_77 else cz_L_100 post mc ms p4 x6 x7 x8 x9 x10 x11 mk sk fm0_count_59 am731_62 am732_65 am733_68 am734_71 am735_74 am736_77) else cz_L_100 post mc ms p4 x6 x7 x8 x9 x10 x11 mk sk fm0_count_59 am731_62 am732_65 am733_68 am734_71 am735_74 am736_77)) else post 0 ())) (fm0_count_38, am611_41, am612_44, am613_47, am614_50, am615_53, am616_56) x7 x10 else post 0 ())) (0, (fun _ => 0), (fun _ => 0), (fun _ => 0), (fun _ => 0), (fun _ => 0), (fun _ => 0)) x6 x9
theorem cc_top {post : Int32 → St0 → Prop} {bpost : Int32 → St0 → Bool} (hpost : ∀ v0 v1, bpost v0 v1 = true → post v0 v1) {mc ms : Nat} {x6 x7 x8 x9 x10 x11 p4 : Int32} {mk sk : Nat} : cz_top bpost mc ms x6 x7 x8 x9 x10 x11 p4 mk sk = true → wpX_write (fun r_37 u => match u with | (fm0_count_38, am611_41, am612_44, am613_47, am614_50, am615_53, am616_56) => (((r_37 = 0 → (wpX_write (fun r_58 u => match u with | (fm0_count_59, am731_62, am732_65, am733_68, am734_71, am735_74, am736_77) => (((r_58 = 1 → (((p4 = (-1) → (wL_lawOf_113 post mc ms p4 x6 x7 x8 x9 x10 x11 mk sk fm0_count_59 am731_62 am732_65 am733_68 am734_71 am735_74 am736_77)) ∧ (¬ p4 = (-1) → (((p4 = 0 → (((x9 = x11 → (wL_lawOf_113 post mc ms p4 x6 x7 x8 x9 x10 x11 mk sk fm0_count_59 am731_62 am732_65 am733_68 am734_71 am735_74 am736_77)) ∧ (¬ x9 = x11 → (wL_lawOf_100 post mc ms p4 x6 x7 x8 x9 x10 x11 mk sk fm0_count_59 am731_62 am732_65 am733_68 am734_71 am735_74 am736_77))))) ∧ (¬ p4 = 0 → (wL_lawOf_100 post mc ms p4 x6 x7 x8 x9 x10 x11 mk sk fm0_count_59 am731_62 am732_65 am733_68 am734_71 am735_74 am736_77)))))))) ∧ (¬ r_58 = 1 → (post 0 ()))))) (fm0_count_38, am611_41, am612_44, am613_47, am614_50, am615_53, am616_56) x7 x10)) ∧ (¬ r_37 = 0 → (post 0 ()))))) (0, (fun _ => 0), (fun _ => 0), (fun _ => 0), (fun _ => 0), (fun _ => 0), (fun _ => 0)) x6 x9 := by
  refine cc_p_write ?_
  · intro r_37 u
    rcases u with ⟨fm0_count_38, am611_41, am612_44, am613_47, am614_50, am615_53, am616_56⟩
    refine cc_if ?_ ?_
    · refine cc_p_write ?_
      · intro r_58 u
        rcases u with ⟨fm0_count_59, am731_62, am732_65, am733_68, am734_71, am735_74, am736_77⟩
        refine cc_if ?_ ?_
        · refine cc_if ?_ ?_
          · exact cc_L_113 hpost
          · refine cc_if ?_ ?_
            · refine cc_if ?_ ?_
              · exact cc_L_113 hpost
              · exact cc_L_100 hpost
            · exact cc_L_100 hpost
        · exact hpost _ _
    · exact hpost _ _
end
section
/-! the law at every script there is: users below 3, cells below 2, the source -1, 0, 1 or another (worked out by the kernel) -/
def cz_post (r : Int32) (_ : St0) : Bool := decide (r = 1)
def cz_oth (x6 x7 x9 x10 : Int32) : Bool := cz_p_write (fun r u => match u with | (f, a1, a2, a3, a4, a5, a6) => (if r = 0 then cz_p_write (fun r u => match u with | (f, a1, a2, a3, a4, a5, a6) => (if r = 1 then (if f = 2 then cz_L_141 cz_post 38 608 2 0 0 0 0 0 0 0 (-1) (-1) 7 55 f a1 a2 a3 a4 a5 a6 else false) else cz_post 0 ())) (f, a1, a2, a3, a4, a5, a6) x7 x10 else cz_post 0 ())) (0, (fun _ => 0), (fun _ => 0), (fun _ => 0), (fun _ => 0), (fun _ => 0), (fun _ => 0)) x6 x9
theorem cz_tm : ∀ a, a < 3 → ∀ b, b < 3 → ∀ r, r < 3 → ∀ x, x < 2 → ∀ y, y < 2 → ∀ z, z < 2 → cz_top cz_post 38 608 (nI a) (nI b) (nI r) (nI x) (nI y) (nI z) (-1) 7 55 = true := by decide +kernel
theorem cz_t0 : ∀ a, a < 3 → ∀ b, b < 3 → ∀ r, r < 3 → ∀ x, x < 2 → ∀ y, y < 2 → ∀ z, z < 2 → cz_top cz_post 38 608 (nI a) (nI b) (nI r) (nI x) (nI y) (nI z) 0 7 55 = true := by decide +kernel
theorem cz_t1 : ∀ a, a < 3 → ∀ b, b < 3 → ∀ r, r < 3 → ∀ x, x < 2 → ∀ y, y < 2 → ∀ z, z < 2 → cz_top cz_post 38 608 (nI a) (nI b) (nI r) (nI x) (nI y) (nI z) 1 7 55 = true := by decide +kernel
theorem cz_to : ∀ a, a < 3 → ∀ b, b < 3 → ∀ x, x < 2 → ∀ y, y < 2 → cz_oth (nI a) (nI b) (nI x) (nI y) = true := by decide +kernel
end
section
/-! the bounds of what the law makes of its ints -/
theorem cz_x3 (p : Int32) : ∃ a, a < 3 ∧ (p &&& 255) - (p &&& 255) / 3 * 3 = nI a := by
  obtain ⟨j, hj, e⟩ := pk_andE p (m := 255) 8 (by decide)
  rw [e]
  exact ⟨j % 3, Nat.mod_lt _ (by decide), pk_rem (a := j) (d := 3) (by omega) (by decide) (by decide)⟩
theorem cz_x2 (p : Int32) : ∃ a, a < 2 ∧ p &&& 1 = nI a := pk_andE p (m := 1) 1 (by decide)
theorem cz_ge2 {x : Int32} (h : ¬ x < 0) (h0 : ¬ x = 0) (h1 : ¬ x = 1) : (2 : Int32) ≤ x := by
  rw [Int32.lt_iff_toInt_lt] at h
  rw [Int32.le_iff_toInt_le]
  have e0 : ¬ x.toInt = (0 : Int32).toInt := fun z => h0 (Int32.toInt_inj.mp z)
  have e1 : ¬ x.toInt = (1 : Int32).toInt := fun z => h1 (Int32.toInt_inj.mp z)
  have z0 : (0 : Int32).toInt = 0 := by decide
  have z1 : (1 : Int32).toInt = 1 := by decide
  have z2 : (2 : Int32).toInt = 2 := by decide
  omega
theorem cz_u3 : ∀ a, a < 3 → ¬ nI a < 0 ∧ ¬ 2 < nI a := by decide
theorem cz_u2 : ∀ a, a < 2 → ¬ nI a < 0 ∧ ¬ 1 < nI a := by decide
theorem cc_post (v0 : Int32) (v1 : St0) (h : cz_post v0 v1 = true) : v0 = 1 := of_decide_eq_true h
/-- a source that is none of -1, 0, 1: the read is refused, two operations stand -/
theorem cc_141 {x4 x6 x7 x8 x9 x10 x11 f : Int32} {b1 b2 b3 b4 b5 b6 : Nat → Int32} (h : cz_L_141 cz_post 38 608 2 0 0 0 0 0 0 0 (-1) (-1) 7 55 f b1 b2 b3 b4 b5 b6 = true) : wL_lawOf_141 (fun r _ => r = 1) 38 608 x4 x6 x7 x8 x9 x10 x11 0 (-1) (-1) 7 55 f b1 b2 b3 b4 b5 b6 := by
  refine cc_L_141 cc_post ?_
  unfold cz_L_141 at h ⊢
  rw [if_pos rfl, if_pos rfl] at h ⊢
  exact h
theorem cc_118 {x4 x6 x7 x8 x9 x10 x11 f : Int32} {b1 b2 b3 b4 b5 b6 : Nat → Int32} (hm : ¬ x4 = -1) (h0 : ¬ x4 = 0) (h1 : ¬ x4 = 1) (hr : ¬ x8 < 0 ∧ ¬ 2 < x8) (hz : ¬ x11 < 0 ∧ ¬ 1 < x11) (hf : f = 2)
    (h : cz_L_141 cz_post 38 608 2 0 0 0 0 0 0 0 (-1) (-1) 7 55 f b1 b2 b3 b4 b5 b6 = true) : wL_lawOf_118 (fun r _ => r = 1) 38 608 x4 x6 x7 x8 x9 x10 x11 0 7 55 f b1 b2 b3 b4 b5 b6 := by
  have h7 : ¬ 7 ≤ f := by
    rw [hf]
    decide
  have K := cc_141 (x4 := x4) (x6 := x6) (x7 := x7) (x8 := x8) (x9 := x9) (x10 := x10) (x11 := x11) h
  unfold wL_lawOf_118
  refine br_f hr.1 (br_f hr.2 (br_f hz.1 (br_f hz.2 (br_f h7 ?_))))
  refine br_f hm (br_c (fun _ => ?_) (fun hn => br_t ?_ ?_))
  · exact br_t rfl (br_t rfl K)
  · rw [hf]
    exact cz_ge2 hn h0 h1
  · exact br_t rfl (br_t rfl K)
theorem cc_oth {x6 x7 x8 x9 x10 x11 p4 : Int32} (hm : ¬ p4 = -1) (h0 : ¬ p4 = 0) (h1 : ¬ p4 = 1) (hr : ¬ x8 < 0 ∧ ¬ 2 < x8) (hz : ¬ x11 < 0 ∧ ¬ 1 < x11) (h : cz_oth x6 x7 x9 x10 = true) : wpX_write (fun r_37 u => match u with | (fm0_count_38, am611_41, am612_44, am613_47, am614_50, am615_53, am616_56) => (((r_37 = 0 → (wpX_write (fun r_58 u => match u with | (fm0_count_59, am731_62, am732_65, am733_68, am734_71, am735_74, am736_77) => (((r_58 = 1 → (((p4 = (-1) → (wL_lawOf_113 (fun r _ => r = 1) 38 608 p4 x6 x7 x8 x9 x10 x11 7 55 fm0_count_59 am731_62 am732_65 am733_68 am734_71 am735_74 am736_77)) ∧ (¬ p4 = (-1) → (((p4 = 0 → (((x9 = x11 → (wL_lawOf_113 (fun r _ => r = 1) 38 608 p4 x6 x7 x8 x9 x10 x11 7 55 fm0_count_59 am731_62 am732_65 am733_68 am734_71 am735_74 am736_77)) ∧ (¬ x9 = x11 → (wL_lawOf_100 (fun r _ => r = 1) 38 608 p4 x6 x7 x8 x9 x10 x11 7 55 fm0_count_59 am731_62 am732_65 am733_68 am734_71 am735_74 am736_77))))) ∧ (¬ p4 = 0 → (wL_lawOf_100 (fun r _ => r = 1) 38 608 p4 x6 x7 x8 x9 x10 x11 7 55 fm0_count_59 am731_62 am732_65 am733_68 am734_71 am735_74 am736_77)))))))) ∧ (¬ r_58 = 1 → ((0 : Int32) = 1))))) (fm0_count_38, am611_41, am612_44, am613_47, am614_50, am615_53, am616_56) x7 x10)) ∧ (¬ r_37 = 0 → ((0 : Int32) = 1))))) (0, (fun _ => 0), (fun _ => 0), (fun _ => 0), (fun _ => 0), (fun _ => 0), (fun _ => 0)) x6 x9 := by
  revert h
  unfold cz_oth
  refine cc_p_write ?_
  intro r u
  rcases u with ⟨f, b1, b2, b3, b4, b5, b6⟩
  refine cc_if ?_ (cc_post _ _)
  refine cc_p_write ?_
  intro r u
  rcases u with ⟨g, c1, c2, c3, c4, c5, c6⟩
  refine cc_if ?_ (cc_post _ _)
  intro h
  by_cases hg : g = 2
  · rw [if_pos hg] at h
    exact br_f hm (br_f h0 (br_f h1 (cc_118 hm h0 h1 hr hz hg h)))
  · rw [if_neg hg] at h
    exact (Bool.false_ne_true h).elim
theorem cc_lawOf (p0 p1 p2 p3 p4 : Int32) : wpL_lawOf (fun r _ => r = 1) 38 608 () p0 p1 p2 p3 p4 := by
  refine ⟨by decide, by decide, 6, 48, by decide, by decide, ?_⟩
  refine ⟨by decide, by decide, by decide, by decide, by decide, by decide, by decide, by decide, by decide, by decide, by decide, by decide, ?_⟩
  refine ⟨by decide, fun x6 e6 => ⟨by decide, fun x7 e7 => ⟨by decide, fun x8 e8 x9 e9 x10 e10 x11 e11 => ?_⟩⟩⟩
  obtain ⟨a, ha, ea⟩ := cz_x3 p0
  obtain ⟨b, hb, eb⟩ := cz_x3 p1
  obtain ⟨r, hr, er⟩ := cz_x3 p2
  obtain ⟨x, hx, ex⟩ := cz_x2 p3
  obtain ⟨y, hy, ey⟩ := cz_x2 (p3 >>> ((1 : Int32) &&& 31))
  obtain ⟨z, hz, ez⟩ := cz_x2 (p3 >>> ((2 : Int32) &&& 31))
  rw [ea] at e6
  rw [eb] at e7
  rw [er] at e8
  rw [ex] at e9
  rw [ey] at e10
  rw [ez] at e11
  subst e6 e7 e8 e9 e10 e11
  by_cases hm : p4 = -1
  · subst hm
    exact cc_top cc_post (cz_tm a ha b hb r hr x hx y hy z hz)
  · by_cases h0 : p4 = 0
    · subst h0
      exact cc_top cc_post (cz_t0 a ha b hb r hr x hx y hy z hz)
    · by_cases h1 : p4 = 1
      · subst h1
        exact cc_top cc_post (cz_t1 a ha b hb r hr x hx y hy z hz)
      · exact cc_oth hm h0 h1 (cz_u3 r hr) (cz_u2 z hz) (cz_to a ha b hb x hx y hy)
theorem cc_cell {post : Int32 → Prop} {L : Nat} {xs : Nat → Int32} (hL : L ≤ 5) {p : Int32} (k : Nat) (hk : k < 5) (hp : p = nI k) (h : ∀ v, post v) : wpL_cellAt post L xs () p :=
  pk_le L k (fun _ => h 0) (fun z => ⟨pk_in k L z hp, h _⟩) rfl hp
theorem i_vc (xs : Nat → Int32) (L : Nat) (hL : L ≤ 5) : wpL_law (fun r => r = 1) L xs := by
  unfold wpL_law
  refine cc_cell hL 0 (by decide) rfl (fun v0 => ?_)
  refine cc_cell hL 1 (by decide) rfl (fun v1 => ?_)
  refine cc_cell hL 2 (by decide) rfl (fun v2 => ?_)
  refine cc_cell hL 3 (by decide) rfl (fun v3 => ?_)
  refine cc_cell hL 4 (by decide) rfl (fun v4 => ?_)
  exact ⟨38, 608, by decide, by decide, cc_lawOf v0 v1 v2 v3 v4⟩
end
