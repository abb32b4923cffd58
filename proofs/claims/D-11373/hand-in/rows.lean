section
/-! the mirror's connectives: a Boolean test for each connective of the printed predicates, and that its 'true' gives the connective -/
theorem oq_br {c A B : Prop} {dc : Decidable c} {a b : Bool} (ta : a = true → A) (tb : b = true → B) : (if c then a else b) = true → (c → A) ∧ (¬ c → B) :=
  fun h => ⟨fun hc => ta (by rw [if_pos hc] at h; exact h), fun hc => tb (by rw [if_neg hc] at h; exact h)⟩
def oq_in (i : Int32) (n : Nat) : Bool := decide (¬ (i < 0 ∨ n ≤ i.toNatClampNeg))
theorem oq_and {i : Int32} {n : Nat} {a : Bool} {A : Prop} (t : a = true → A) : (oq_in i n && a) = true → vp_in i n ∧ A := by
  intro h
  rw [Bool.and_eq_true] at h
  have h1 : ¬ (i < 0 ∨ n ≤ i.toNatClampNeg) := of_decide_eq_true h.1
  exact ⟨h1, t h.2⟩
theorem oq_ex {P : Nat → Prop} {b : Bool} (k : Nat) (t : b = true → P k) : b = true → ∃ n, P n := fun h => ⟨k, t h⟩
/-- a named int, worked out before it is handed on -/
def oq_li (e : Int32) (p : Int32 → Bool) : Bool := match e.toBitVec.toNat with
  | 0 => p 0
  | k + 1 => p (nI (k + 1))
theorem oq_self (x : Int32) : nI x.toBitVec.toNat = x := by
  apply Int32.toBitVec_inj.1
  show BitVec.ofNat 32 x.toBitVec.toNat = x.toBitVec
  simp
theorem oq_li_e (x : Int32) (p : Int32 → Bool) : oq_li x p = p x := by
  have key := oq_self x
  unfold oq_li
  split
  · rename_i hz
    rw [hz, nI_0] at key
    rw [← key]
  · rename_i k hk
    rw [hk] at key
    rw [key]
theorem oq_li_s {e : Int32} {p : Int32 → Bool} {P : Int32 → Prop} (t : ∀ x, p x = true → P x) : oq_li e p = true → ∀ x, x = e → P x := by
  intro h x hx
  rw [hx]
  rw [oq_li_e] at h
  exact t e h
/-- a named array -/
def oq_la (e : Nat → Int32) (p : (Nat → Int32) → Bool) : Bool := p e
theorem oq_la_s {e : Nat → Int32} {p : (Nat → Int32) → Bool} {P : (Nat → Int32) → Prop} (t : ∀ x, p x = true → P x) : oq_la e p = true → ∀ x, x = e → P x := by
  intro h x hx
  rw [hx]
  exact t e h
end
section
def oq_L_second_10 (postB : Int32 → Bool) (x0 : Int32) (x1 : Int32) (x2 : Int32) (x3 : Int32) (z0 : Int32) : Bool := (if x2 = x3 then (postB (z0 + 0)) else (if x0 = x2 then (if x1 = x3 then (postB (z0 + 0)) else (postB (z0 + 1))) else (postB (z0 + 1))))
theorem oq_s_L_second_10 {post : Int32 → Prop} {postB : Int32 → Bool} (hpost : ∀ v0, postB v0 = true → post v0) {x0 : Int32} {x1 : Int32} {x2 : Int32} {x3 : Int32} {z0 : Int32} : oq_L_second_10 postB x0 x1 x2 x3 z0 = true → wL_second_10 post x0 x1 x2 x3 z0 := by
  refine oq_br ?_ ?_
  · exact hpost _
  · refine oq_br ?_ ?_
    · refine oq_br ?_ ?_
      · exact hpost _
      · exact hpost _
    · exact hpost _
def oq_pL_second (postB : Int32 → Bool) (u : St0) (p0 : Int32) (p1 : Int32) (p2 : Int32) (p3 : Int32) : Bool := (if p0 = p1 then (oq_L_second_10 postB p0 p1 p2 p3 0) else (oq_L_second_10 postB p0 p1 p2 p3 1))
theorem oq_s_pL_second {post : Int32 → Prop} {postB : Int32 → Bool} (hpost : ∀ v0, postB v0 = true → post v0) {u : St0} {p0 : Int32} {p1 : Int32} {p2 : Int32} {p3 : Int32} : oq_pL_second postB u p0 p1 p2 p3 = true → wpL_second post u p0 p1 p2 p3 := by
  refine oq_br ?_ ?_
  · exact oq_s_L_second_10 hpost
  · exact oq_s_L_second_10 hpost
def oq_pX_inRange (postB : Int32 → Bool) (u : St2) (p0 : Int32) : Bool := match u with
  | (f0_n, f0_full, f0_known, f0_found, a1, a2, a3, a4, a5, a6, a7) => (if p0 < 0 then (postB 0) else (if f0_n ≤ p0 then (postB 0) else (postB 1)))
theorem oq_s_pX_inRange {post : Int32 → Prop} {postB : Int32 → Bool} (hpost : ∀ v0, postB v0 = true → post v0) {u : St2} {p0 : Int32} : oq_pX_inRange postB u p0 = true → wpX_inRange post u p0 := by
  obtain ⟨f0_n, f0_full, f0_known, f0_found, a1, a2, a3, a4, a5, a6, a7⟩ := u
  refine oq_br ?_ ?_
  · exact hpost _
  · refine oq_br ?_ ?_
    · exact hpost _
    · exact hpost _
def oq_X_sumBefore_16 (postB : St2 → Bool) (x1 : Int32) (x3 : Int32) (f0_n : Int32) (f0_full : Int32) (f0_known : Int32) (f0_found : Int32) (a1 : Nat → Int32) (a2 : Nat → Int32) (a3 : Nat → Int32) (a4 : Nat → Int32) (a5 : Nat → Int32) (a6 : Nat → Int32) (a7 : Nat → Int32) : Nat → Int32 → Int32 → Bool
  | 0 => fun _ _ => false
  | n + 1 => fun x2 x4 => (if f0_n ≤ x4 then (oq_in x1 32 && (oq_la (upd a6 x1.toNatClampNeg x2) (fun a6_4 => (postB (f0_n, f0_full, f0_known, f0_found, a1, a2, a3, a4, a5, a6_4, a7))))) else (if (((x1.toUInt32 >>> (x4.toUInt32 &&& Int32.toUInt32 31)).toInt32) &&& 1) = 0 then (oq_li (x4 + 1) (fun x4_6 => (oq_X_sumBefore_16 postB x1 x3 f0_n f0_full f0_known f0_found a1 a2 a3 a4 a5 a6 a7 n x2 x4_6))) else (oq_in ((5 * x3) + x4) 160 && (oq_in (x1 &&& (((1 : Int32) <<< (x4 &&& 31)) ^^^ (-1))) 32 && (oq_li ((a3 ((5 * x3) + x4).toNatClampNeg) + (a6 (x1 &&& (((1 : Int32) <<< (x4 &&& 31)) ^^^ (-1))).toNatClampNeg)) (fun x5_9 => (if x2 ≤ x5_9 then (oq_li (x4 + 1) (fun x4_11 => (oq_X_sumBefore_16 postB x1 x3 f0_n f0_full f0_known f0_found a1 a2 a3 a4 a5 a6 a7 n x2 x4_11))) else (oq_li (x4 + 1) (fun x4_12 => (oq_X_sumBefore_16 postB x1 x3 f0_n f0_full f0_known f0_found a1 a2 a3 a4 a5 a6 a7 n x5_9 x4_12))))))))))
theorem oq_s_X_sumBefore_16 {post : St2 → Prop} {postB : St2 → Bool} (hpost : ∀ v0, postB v0 = true → post v0) {x1 : Int32} {x3 : Int32} {f0_n : Int32} {f0_full : Int32} {f0_known : Int32} {f0_found : Int32} {a1 : Nat → Int32} {a2 : Nat → Int32} {a3 : Nat → Int32} {a4 : Nat → Int32} {a5 : Nat → Int32} {a6 : Nat → Int32} {a7 : Nat → Int32} : ∀ (n : Nat) (x2 : Int32) (x4 : Int32), oq_X_sumBefore_16 postB x1 x3 f0_n f0_full f0_known f0_found a1 a2 a3 a4 a5 a6 a7 n x2 x4 = true → wX_sumBefore_16 post x1 x3 f0_n f0_full f0_known f0_found a1 a2 a3 a4 a5 a6 a7 n x2 x4 := by
  intro n
  induction n with
  | zero => intro x2 x4 h; exact absurd h Bool.false_ne_true
  | succ n ih =>
    intro x2 x4
    refine oq_br ?_ ?_
    · refine oq_and ?_
      refine oq_la_s (fun a6_4 => ?_)
      exact hpost _
    · refine oq_br ?_ ?_
      · refine oq_li_s (fun x4_6 => ?_)
        exact ih _ _
      · refine oq_and ?_
        refine oq_and ?_
        refine oq_li_s (fun x5_9 => ?_)
        refine oq_br ?_ ?_
        · refine oq_li_s (fun x4_11 => ?_)
          exact ih _ _
        · refine oq_li_s (fun x4_12 => ?_)
          exact ih _ _
def oq_pX_sumBefore (postB : St2 → Bool) (u : St2) (p0 : Int32) : Bool := match u with
  | (f0_n, f0_full, f0_known, f0_found, a1, a2, a3, a4, a5, a6, a7) => (oq_li (f0_full &&& (p0 ^^^ (-1))) (fun x3_1 => (oq_X_sumBefore_16 postB p0 x3_1 f0_n f0_full f0_known f0_found a1 a2 a3 a4 a5 a6 a7 8 1000 0)))
theorem oq_s_pX_sumBefore {post : St2 → Prop} {postB : St2 → Bool} (hpost : ∀ v0, postB v0 = true → post v0) {u : St2} {p0 : Int32} : oq_pX_sumBefore postB u p0 = true → wpX_sumBefore post u p0 := by
  obtain ⟨f0_n, f0_full, f0_known, f0_found, a1, a2, a3, a4, a5, a6, a7⟩ := u
  unfold oq_pX_sumBefore wpX_sumBefore
  refine oq_li_s (fun x3_1 => ?_)
  refine oq_ex 8 ?_
  exact oq_s_X_sumBefore_16 hpost _ _ _
def oq_X_sumBehind_79 (postB : St2 → Bool) (J9B : Int32 → Int32 → Int32 → Bool) (x1 : Int32) (x3 : Int32) (x4 : Int32) (x5 : Int32) (x6 : Int32) (z0 : Int32) (f0_n : Int32) (f0_full : Int32) (f0_known : Int32) (f0_found : Int32) (a1 : Nat → Int32) (a2 : Nat → Int32) (a3 : Nat → Int32) (a4 : Nat → Int32) (a5 : Nat → Int32) (a6 : Nat → Int32) (a7 : Nat → Int32) : Bool := (oq_in x5 32 && (if (x6 + (a5 x5.toNatClampNeg)) ≤ x3 then (oq_li (x4 + 1) (fun x4_15 => (J9B z0 x3 x4_15))) else (oq_in x5 32 && (oq_li (x6 + (a5 x5.toNatClampNeg)) (fun x3_17 => (oq_li (x4 + 1) (fun x4_18 => (J9B z0 x3_17 x4_18))))))))
theorem oq_s_X_sumBehind_79 {post : St2 → Prop} {postB : St2 → Bool} (hpost : ∀ v0, postB v0 = true → post v0) {J9 : Int32 → Int32 → Int32 → Prop} {J9B : Int32 → Int32 → Int32 → Bool} (hJ9 : ∀ v0 v1 v2, J9B v0 v1 v2 = true → J9 v0 v1 v2) {x1 : Int32} {x3 : Int32} {x4 : Int32} {x5 : Int32} {x6 : Int32} {z0 : Int32} {f0_n : Int32} {f0_full : Int32} {f0_known : Int32} {f0_found : Int32} {a1 : Nat → Int32} {a2 : Nat → Int32} {a3 : Nat → Int32} {a4 : Nat → Int32} {a5 : Nat → Int32} {a6 : Nat → Int32} {a7 : Nat → Int32} : oq_X_sumBehind_79 postB J9B x1 x3 x4 x5 x6 z0 f0_n f0_full f0_known f0_found a1 a2 a3 a4 a5 a6 a7 = true → wX_sumBehind_79 post J9 x1 x3 x4 x5 x6 z0 f0_n f0_full f0_known f0_found a1 a2 a3 a4 a5 a6 a7 := by
  unfold oq_X_sumBehind_79 wX_sumBehind_79
  refine oq_and ?_
  refine oq_br ?_ ?_
  · refine oq_li_s (fun x4_15 => ?_)
    exact hJ9 _ _ _
  · refine oq_and ?_
    refine oq_li_s (fun x3_17 => ?_)
    refine oq_li_s (fun x4_18 => ?_)
    exact hJ9 _ _ _
def oq_X_sumBehind_9 (postB : St2 → Bool) (x1 : Int32) (f0_n : Int32) (f0_full : Int32) (f0_known : Int32) (f0_found : Int32) (a1 : Nat → Int32) (a2 : Nat → Int32) (a3 : Nat → Int32) (a4 : Nat → Int32) (a5 : Nat → Int32) (a6 : Nat → Int32) (a7 : Nat → Int32) : Nat → Int32 → Int32 → Int32 → Bool
  | 0 => fun _ _ _ => false
  | n + 1 => fun x2 x3 x4 => (if f0_n ≤ x4 then (oq_in x1 32 && (oq_la (upd a4 x1.toNatClampNeg x2) (fun a4_3 => (oq_in x1 32 && (oq_la (upd a5 x1.toNatClampNeg x3) (fun a5_5 => (postB (f0_n, f0_full, f0_known, f0_found, a1, a2, a3, a4_3, a5_5, a6, a7)))))))) else (if (((x1.toUInt32 >>> (x4.toUInt32 &&& Int32.toUInt32 31)).toInt32) &&& 1) = 0 then (oq_li (x4 + 1) (fun x4_7 => (oq_X_sumBehind_9 postB x1 f0_n f0_full f0_known f0_found a1 a2 a3 a4 a5 a6 a7 n x2 x3 x4_7))) else (oq_li (x1 &&& (((1 : Int32) <<< (x4 &&& 31)) ^^^ (-1))) (fun x5_8 => (oq_in ((5 * x5_8) + x4) 160 && (oq_li (a3 ((5 * x5_8) + x4).toNatClampNeg) (fun x6_10 => (oq_in x5_8 32 && (if x2 ≤ (x6_10 + (a4 x5_8.toNatClampNeg)) then (oq_X_sumBehind_79 postB (oq_X_sumBehind_9 postB x1 f0_n f0_full f0_known f0_found a1 a2 a3 a4 a5 a6 a7 n) x1 x3 x4 x5_8 x6_10 x2 f0_n f0_full f0_known f0_found a1 a2 a3 a4 a5 a6 a7) else (oq_in x5_8 32 && (oq_X_sumBehind_79 postB (oq_X_sumBehind_9 postB x1 f0_n f0_full f0_known f0_found a1 a2 a3 a4 a5 a6 a7 n) x1 x3 x4 x5_8 x6_10 (x6_10 + (a4 x5_8.toNatClampNeg)) f0_n f0_full f0_known f0_found a1 a2 a3 a4 a5 a6 a7)))))))))))
theorem oq_s_X_sumBehind_9 {post : St2 → Prop} {postB : St2 → Bool} (hpost : ∀ v0, postB v0 = true → post v0) {x1 : Int32} {f0_n : Int32} {f0_full : Int32} {f0_known : Int32} {f0_found : Int32} {a1 : Nat → Int32} {a2 : Nat → Int32} {a3 : Nat → Int32} {a4 : Nat → Int32} {a5 : Nat → Int32} {a6 : Nat → Int32} {a7 : Nat → Int32} : ∀ (n : Nat) (x2 : Int32) (x3 : Int32) (x4 : Int32), oq_X_sumBehind_9 postB x1 f0_n f0_full f0_known f0_found a1 a2 a3 a4 a5 a6 a7 n x2 x3 x4 = true → wX_sumBehind_9 post x1 f0_n f0_full f0_known f0_found a1 a2 a3 a4 a5 a6 a7 n x2 x3 x4 := by
  intro n
  induction n with
  | zero => intro x2 x3 x4 h; exact absurd h Bool.false_ne_true
  | succ n ih =>
    intro x2 x3 x4
    refine oq_br ?_ ?_
    · refine oq_and ?_
      refine oq_la_s (fun a4_3 => ?_)
      refine oq_and ?_
      refine oq_la_s (fun a5_5 => ?_)
      exact hpost _
    · refine oq_br ?_ ?_
      · refine oq_li_s (fun x4_7 => ?_)
        exact ih _ _ _
      · refine oq_li_s (fun x5_8 => ?_)
        refine oq_and ?_
        refine oq_li_s (fun x6_10 => ?_)
        refine oq_and ?_
        refine oq_br ?_ ?_
        · exact oq_s_X_sumBehind_79 hpost ih
        · refine oq_and ?_
          exact oq_s_X_sumBehind_79 hpost ih
def oq_pX_sumBehind (postB : St2 → Bool) (u : St2) (p0 : Int32) : Bool := match u with
  | (f0_n, f0_full, f0_known, f0_found, a1, a2, a3, a4, a5, a6, a7) => (oq_X_sumBehind_9 postB p0 f0_n f0_full f0_known f0_found a1 a2 a3 a4 a5 a6 a7 8 1000 0 0)
theorem oq_s_pX_sumBehind {post : St2 → Prop} {postB : St2 → Bool} (hpost : ∀ v0, postB v0 = true → post v0) {u : St2} {p0 : Int32} : oq_pX_sumBehind postB u p0 = true → wpX_sumBehind post u p0 := by
  obtain ⟨f0_n, f0_full, f0_known, f0_found, a1, a2, a3, a4, a5, a6, a7⟩ := u
  refine oq_ex 8 ?_
  exact oq_s_X_sumBehind_9 hpost _ _ _ _
def oq_X_keepRest_7 (postB : St2 → Bool) (x1 : Int32) (f0_n : Int32) (f0_full : Int32) (f0_known : Int32) (f0_found : Int32) (a1 : Nat → Int32) (a2 : Nat → Int32) (a3 : Nat → Int32) (a4 : Nat → Int32) (a5 : Nat → Int32) (a6 : Nat → Int32) (a7 : Nat → Int32) : Nat → Int32 → Bool
  | 0 => fun _ => false
  | n + 1 => fun x3 => (if f0_found ≤ x3 then (oq_in f0_found 64 && (oq_la (upd a7 f0_found.toNatClampNeg x1) (fun a7_4 => (oq_li (f0_found + 1) (fun f_5 => (postB (f0_n, f0_full, f0_known, f_5, a1, a2, a3, a4, a5, a6, a7_4))))))) else (oq_in x3 64 && (if (a7 x3.toNatClampNeg) = x1 then (postB (f0_n, f0_full, f0_known, f0_found, a1, a2, a3, a4, a5, a6, a7)) else (oq_li (x3 + 1) (fun x3_8 => (oq_X_keepRest_7 postB x1 f0_n f0_full f0_known f0_found a1 a2 a3 a4 a5 a6 a7 n x3_8))))))
theorem oq_s_X_keepRest_7 {post : St2 → Prop} {postB : St2 → Bool} (hpost : ∀ v0, postB v0 = true → post v0) {x1 : Int32} {f0_n : Int32} {f0_full : Int32} {f0_known : Int32} {f0_found : Int32} {a1 : Nat → Int32} {a2 : Nat → Int32} {a3 : Nat → Int32} {a4 : Nat → Int32} {a5 : Nat → Int32} {a6 : Nat → Int32} {a7 : Nat → Int32} : ∀ (n : Nat) (x3 : Int32), oq_X_keepRest_7 postB x1 f0_n f0_full f0_known f0_found a1 a2 a3 a4 a5 a6 a7 n x3 = true → wX_keepRest_7 post x1 f0_n f0_full f0_known f0_found a1 a2 a3 a4 a5 a6 a7 n x3 := by
  intro n
  induction n with
  | zero => intro x3 h; exact absurd h Bool.false_ne_true
  | succ n ih =>
    intro x3
    refine oq_br ?_ ?_
    · refine oq_and ?_
      refine oq_la_s (fun a7_4 => ?_)
      refine oq_li_s (fun f_5 => ?_)
      exact hpost _
    · refine oq_and ?_
      refine oq_br ?_ ?_
      · exact hpost _
      · refine oq_li_s (fun x3_8 => ?_)
        exact ih _
def oq_pX_keepRest (postB : St2 → Bool) (u : St2) (p0 : Int32) (p1 : Int32) : Bool := match u with
  | (f0_n, f0_full, f0_known, f0_found, a1, a2, a3, a4, a5, a6, a7) => (if p1 = 0 then (postB (f0_n, f0_full, f0_known, f0_found, a1, a2, a3, a4, a5, a6, a7)) else (oq_X_keepRest_7 postB p0 f0_n f0_full f0_known f0_found a1 a2 a3 a4 a5 a6 a7 8 0))
theorem oq_s_pX_keepRest {post : St2 → Prop} {postB : St2 → Bool} (hpost : ∀ v0, postB v0 = true → post v0) {u : St2} {p0 : Int32} {p1 : Int32} : oq_pX_keepRest postB u p0 p1 = true → wpX_keepRest post u p0 p1 := by
  obtain ⟨f0_n, f0_full, f0_known, f0_found, a1, a2, a3, a4, a5, a6, a7⟩ := u
  refine oq_br ?_ ?_
  · exact hpost _
  · refine oq_ex 8 ?_
    exact oq_s_X_keepRest_7 hpost _ _
def oq_X_addRest_64 (postB : St2 → Bool) (J15B : Int32 → Int32 → Int32 → Int32 → Int32 → Bool) (x1 : Int32) (x2 : Int32) (x3 : Int32) (x4 : Int32) (x5 : Int32) (x7 : Int32) (x8 : Int32) (x9 : Int32) (x10 : Int32) (z0 : Int32) (f0_n : Int32) (f0_full : Int32) (f0_known : Int32) (f0_found : Int32) (a1 : Nat → Int32) (a2 : Nat → Int32) (a3 : Nat → Int32) (a4 : Nat → Int32) (a5 : Nat → Int32) (a6 : Nat → Int32) (a7 : Nat → Int32) : Bool := (oq_li (x5 ||| (x10 <<< (x7 &&& 31))) (fun x5_5 => (oq_li (x7 + 1) (fun x7_6 => (if x8 = x3 then (oq_pX_keepRest (fun u => match u with | (f0_n_11, f0_full_12, f0_known_13, f0_found_14, am901_17, am902_20, a3_21, am904_24, am905_27, am906_30, am907_33) => (postB (f0_n_11, f0_full_12, f0_known_13, f0_found_14, am901_17, am902_20, a3_21, am904_24, am905_27, am906_30, am907_33))) (f0_n, f0_full, f0_known, f0_found, a1, a2, a3, a4, a5, a6, a7) x5_5 z0) else (oq_li ((x8 - x3) &&& x3) (fun x8_8 => (oq_li (x9 + 1) (fun x9_9 => (J15B x5_5 z0 x7_6 x8_8 x9_9))))))))))
theorem oq_s_X_addRest_64 {post : St2 → Prop} {postB : St2 → Bool} (hpost : ∀ v0, postB v0 = true → post v0) {J15 : Int32 → Int32 → Int32 → Int32 → Int32 → Prop} {J15B : Int32 → Int32 → Int32 → Int32 → Int32 → Bool} (hJ15 : ∀ v0 v1 v2 v3 v4, J15B v0 v1 v2 v3 v4 = true → J15 v0 v1 v2 v3 v4) {x1 : Int32} {x2 : Int32} {x3 : Int32} {x4 : Int32} {x5 : Int32} {x7 : Int32} {x8 : Int32} {x9 : Int32} {x10 : Int32} {z0 : Int32} {f0_n : Int32} {f0_full : Int32} {f0_known : Int32} {f0_found : Int32} {a1 : Nat → Int32} {a2 : Nat → Int32} {a3 : Nat → Int32} {a4 : Nat → Int32} {a5 : Nat → Int32} {a6 : Nat → Int32} {a7 : Nat → Int32} : oq_X_addRest_64 postB J15B x1 x2 x3 x4 x5 x7 x8 x9 x10 z0 f0_n f0_full f0_known f0_found a1 a2 a3 a4 a5 a6 a7 = true → wX_addRest_64 post J15 x1 x2 x3 x4 x5 x7 x8 x9 x10 z0 f0_n f0_full f0_known f0_found a1 a2 a3 a4 a5 a6 a7 := by
  unfold oq_X_addRest_64 wX_addRest_64
  refine oq_li_s (fun x5_5 => ?_)
  refine oq_li_s (fun x7_6 => ?_)
  refine oq_br ?_ ?_
  · refine oq_s_pX_keepRest (fun ⟨f0_n_11, f0_full_12, f0_known_13, f0_found_14, am901_17, am902_20, a3_21, am904_24, am905_27, am906_30, am907_33⟩ => ?_)
    exact hpost _
  · refine oq_li_s (fun x8_8 => ?_)
    refine oq_li_s (fun x9_9 => ?_)
    exact hJ15 _ _ _ _ _
def oq_X_addRest_59 (postB : St2 → Bool) (J15B : Int32 → Int32 → Int32 → Int32 → Int32 → Bool) (x1 : Int32) (x2 : Int32) (x3 : Int32) (x4 : Int32) (x5 : Int32) (x7 : Int32) (x8 : Int32) (x9 : Int32) (x10 : Int32) (f0_n : Int32) (f0_full : Int32) (f0_known : Int32) (f0_found : Int32) (a1 : Nat → Int32) (a2 : Nat → Int32) (a3 : Nat → Int32) (a4 : Nat → Int32) (a5 : Nat → Int32) (a6 : Nat → Int32) (a7 : Nat → Int32) : Bool := (oq_X_addRest_64 postB J15B x1 x2 x3 x4 x5 x7 x8 x9 x10 1 f0_n f0_full f0_known f0_found a1 a2 a3 a4 a5 a6 a7)
theorem oq_s_X_addRest_59 {post : St2 → Prop} {postB : St2 → Bool} (hpost : ∀ v0, postB v0 = true → post v0) {J15 : Int32 → Int32 → Int32 → Int32 → Int32 → Prop} {J15B : Int32 → Int32 → Int32 → Int32 → Int32 → Bool} (hJ15 : ∀ v0 v1 v2 v3 v4, J15B v0 v1 v2 v3 v4 = true → J15 v0 v1 v2 v3 v4) {x1 : Int32} {x2 : Int32} {x3 : Int32} {x4 : Int32} {x5 : Int32} {x7 : Int32} {x8 : Int32} {x9 : Int32} {x10 : Int32} {f0_n : Int32} {f0_full : Int32} {f0_known : Int32} {f0_found : Int32} {a1 : Nat → Int32} {a2 : Nat → Int32} {a3 : Nat → Int32} {a4 : Nat → Int32} {a5 : Nat → Int32} {a6 : Nat → Int32} {a7 : Nat → Int32} : oq_X_addRest_59 postB J15B x1 x2 x3 x4 x5 x7 x8 x9 x10 f0_n f0_full f0_known f0_found a1 a2 a3 a4 a5 a6 a7 = true → wX_addRest_59 post J15 x1 x2 x3 x4 x5 x7 x8 x9 x10 f0_n f0_full f0_known f0_found a1 a2 a3 a4 a5 a6 a7 := by
  unfold oq_X_addRest_59 wX_addRest_59
  exact oq_s_X_addRest_64 hpost hJ15
def oq_X_addRest_15 (postB : St2 → Bool) (x1 : Int32) (x2 : Int32) (x3 : Int32) (x4 : Int32) (f0_n : Int32) (f0_full : Int32) (f0_known : Int32) (f0_found : Int32) (a1 : Nat → Int32) (a2 : Nat → Int32) (a3 : Nat → Int32) (a4 : Nat → Int32) (a5 : Nat → Int32) (a6 : Nat → Int32) (a7 : Nat → Int32) : Nat → Int32 → Int32 → Int32 → Int32 → Int32 → Bool
  | 0 => fun _ _ _ _ _ => false
  | n + 1 => fun x5 x6 x7 x8 x9 => (if 32 ≤ x9 then (postB (f0_n, f0_full, f0_known, f0_found, a1, a2, a3, a4, a5, a6, a7)) else (oq_li (((x1.toUInt32 >>> ((x2 ||| x8).toUInt32 &&& Int32.toUInt32 31)).toInt32) &&& 1) (fun x10_2 => (oq_li (((x1.toUInt32 >>> ((x2 ||| (x8 ^^^ ((1 : Int32) <<< (x4 &&& 31)))).toUInt32 &&& Int32.toUInt32 31)).toInt32) &&& 1) (fun x11_3 => (if x6 = 0 then (if x10_2 = x11_3 then (oq_X_addRest_64 postB (oq_X_addRest_15 postB x1 x2 x3 x4 f0_n f0_full f0_known f0_found a1 a2 a3 a4 a5 a6 a7 n) x1 x2 x3 x4 x5 x7 x8 x9 x10_2 0 f0_n f0_full f0_known f0_found a1 a2 a3 a4 a5 a6 a7) else (oq_X_addRest_59 postB (oq_X_addRest_15 postB x1 x2 x3 x4 f0_n f0_full f0_known f0_found a1 a2 a3 a4 a5 a6 a7 n) x1 x2 x3 x4 x5 x7 x8 x9 x10_2 f0_n f0_full f0_known f0_found a1 a2 a3 a4 a5 a6 a7)) else (oq_X_addRest_59 postB (oq_X_addRest_15 postB x1 x2 x3 x4 f0_n f0_full f0_known f0_found a1 a2 a3 a4 a5 a6 a7 n) x1 x2 x3 x4 x5 x7 x8 x9 x10_2 f0_n f0_full f0_known f0_found a1 a2 a3 a4 a5 a6 a7)))))))
theorem oq_s_X_addRest_15 {post : St2 → Prop} {postB : St2 → Bool} (hpost : ∀ v0, postB v0 = true → post v0) {x1 : Int32} {x2 : Int32} {x3 : Int32} {x4 : Int32} {f0_n : Int32} {f0_full : Int32} {f0_known : Int32} {f0_found : Int32} {a1 : Nat → Int32} {a2 : Nat → Int32} {a3 : Nat → Int32} {a4 : Nat → Int32} {a5 : Nat → Int32} {a6 : Nat → Int32} {a7 : Nat → Int32} : ∀ (n : Nat) (x5 : Int32) (x6 : Int32) (x7 : Int32) (x8 : Int32) (x9 : Int32), oq_X_addRest_15 postB x1 x2 x3 x4 f0_n f0_full f0_known f0_found a1 a2 a3 a4 a5 a6 a7 n x5 x6 x7 x8 x9 = true → wX_addRest_15 post x1 x2 x3 x4 f0_n f0_full f0_known f0_found a1 a2 a3 a4 a5 a6 a7 n x5 x6 x7 x8 x9 := by
  intro n
  induction n with
  | zero => intro x5 x6 x7 x8 x9 h; exact absurd h Bool.false_ne_true
  | succ n ih =>
    intro x5 x6 x7 x8 x9
    refine oq_br ?_ ?_
    · exact hpost _
    · refine oq_li_s (fun x10_2 => ?_)
      refine oq_li_s (fun x11_3 => ?_)
      refine oq_br ?_ ?_
      · refine oq_br ?_ ?_
        · exact oq_s_X_addRest_64 hpost ih
        · exact oq_s_X_addRest_59 hpost ih
      · exact oq_s_X_addRest_59 hpost ih
def oq_pX_addRest (postB : St2 → Bool) (u : St2) (p0 : Int32) (p1 : Int32) (p2 : Int32) (p3 : Int32) : Bool := match u with
  | (f0_n, f0_full, f0_known, f0_found, a1, a2, a3, a4, a5, a6, a7) => (oq_X_addRest_15 postB p0 p1 p2 p3 f0_n f0_full f0_known f0_found a1 a2 a3 a4 a5 a6 a7 8 0 0 0 0 0)
theorem oq_s_pX_addRest {post : St2 → Prop} {postB : St2 → Bool} (hpost : ∀ v0, postB v0 = true → post v0) {u : St2} {p0 : Int32} {p1 : Int32} {p2 : Int32} {p3 : Int32} : oq_pX_addRest postB u p0 p1 p2 p3 = true → wpX_addRest post u p0 p1 p2 p3 := by
  obtain ⟨f0_n, f0_full, f0_known, f0_found, a1, a2, a3, a4, a5, a6, a7⟩ := u
  refine oq_ex 8 ?_
  exact oq_s_X_addRest_15 hpost _ _ _ _ _ _
def oq_X_countRests_37 (postB : Int32 → St2 → Bool) (J27B : Int32 → Int32 → Int32 → Int32 → Int32 → Int32 → (Nat → Int32) → (Nat → Int32) → (Nat → Int32) → (Nat → Int32) → (Nat → Int32) → (Nat → Int32) → (Nat → Int32) → Bool) (x2 : Int32) (x3 : Int32) (x4 : Int32) (x5 : Int32) (x6 : Int32) : Nat → Int32 → Int32 → Int32 → Int32 → Int32 → (Nat → Int32) → (Nat → Int32) → (Nat → Int32) → (Nat → Int32) → (Nat → Int32) → (Nat → Int32) → (Nat → Int32) → Bool
  | 0 => fun _ _ _ _ _ _ _ _ _ _ _ _ => false
  | n + 1 => fun x7 f0_n f0_full f0_known f0_found a1 a2 a3 a4 a5 a6 a7 => (if 3 ≤ x7 then (if x5 = x4 then (postB f0_found (f0_n, f0_full, f0_known, f0_found, a1, a2, a3, a4, a5, a6, a7)) else (oq_li ((x5 - x4) &&& x4) (fun x5_6 => (oq_li (x6 + 1) (fun x6_7 => (J27B x5_6 x6_7 f0_n f0_full f0_known f0_found a1 a2 a3 a4 a5 a6 a7)))))) else (oq_in x7 3 && (oq_pX_addRest (fun u => match u with | (f0_n_10, f0_full_11, f0_known_12, f0_found_13, am551_16, am552_19, a3_20, am554_23, am555_26, am556_29, am557_32) => (oq_li (x7 + 1) (fun x7_33 => (oq_X_countRests_37 postB J27B x2 x3 x4 x5 x6 n x7_33 f0_n_10 f0_full_11 f0_known_12 f0_found_13 am551_16 am552_19 a3_20 am554_23 am555_26 am556_29 am557_32)))) (f0_n, f0_full, f0_known, f0_found, a1, a2, a3, a4, a5, a6, a7) (a1 x7.toNatClampNeg) x5 x3 x2)))
theorem oq_s_X_countRests_37 {post : Int32 → St2 → Prop} {postB : Int32 → St2 → Bool} (hpost : ∀ v0 v1, postB v0 v1 = true → post v0 v1) {J27 : Int32 → Int32 → Int32 → Int32 → Int32 → Int32 → (Nat → Int32) → (Nat → Int32) → (Nat → Int32) → (Nat → Int32) → (Nat → Int32) → (Nat → Int32) → (Nat → Int32) → Prop} {J27B : Int32 → Int32 → Int32 → Int32 → Int32 → Int32 → (Nat → Int32) → (Nat → Int32) → (Nat → Int32) → (Nat → Int32) → (Nat → Int32) → (Nat → Int32) → (Nat → Int32) → Bool} (hJ27 : ∀ v0 v1 v2 v3 v4 v5 v6 v7 v8 v9 v10 v11 v12, J27B v0 v1 v2 v3 v4 v5 v6 v7 v8 v9 v10 v11 v12 = true → J27 v0 v1 v2 v3 v4 v5 v6 v7 v8 v9 v10 v11 v12) {x2 : Int32} {x3 : Int32} {x4 : Int32} {x5 : Int32} {x6 : Int32} : ∀ (n : Nat) (x7 : Int32) (f0_n : Int32) (f0_full : Int32) (f0_known : Int32) (f0_found : Int32) (a1 : (Nat → Int32)) (a2 : (Nat → Int32)) (a3 : (Nat → Int32)) (a4 : (Nat → Int32)) (a5 : (Nat → Int32)) (a6 : (Nat → Int32)) (a7 : (Nat → Int32)), oq_X_countRests_37 postB J27B x2 x3 x4 x5 x6 n x7 f0_n f0_full f0_known f0_found a1 a2 a3 a4 a5 a6 a7 = true → wX_countRests_37 post J27 x2 x3 x4 x5 x6 n x7 f0_n f0_full f0_known f0_found a1 a2 a3 a4 a5 a6 a7 := by
  intro n
  induction n with
  | zero => intro x7 f0_n f0_full f0_known f0_found a1 a2 a3 a4 a5 a6 a7 h; exact absurd h Bool.false_ne_true
  | succ n ih =>
    intro x7 f0_n f0_full f0_known f0_found a1 a2 a3 a4 a5 a6 a7
    refine oq_br ?_ ?_
    · refine oq_br ?_ ?_
      · exact hpost _ _
      · refine oq_li_s (fun x5_6 => ?_)
        refine oq_li_s (fun x6_7 => ?_)
        exact hJ27 _ _ _ _ _ _ _ _ _ _ _ _ _
    · refine oq_and ?_
      refine oq_s_pX_addRest (fun ⟨f0_n_10, f0_full_11, f0_known_12, f0_found_13, am551_16, am552_19, a3_20, am554_23, am555_26, am556_29, am557_32⟩ => ?_)
      refine oq_li_s (fun x7_33 => ?_)
      exact ih _ _ _ _ _ _ _ _ _ _ _ _
def oq_X_countRests_27 (postB : Int32 → St2 → Bool) (x2 : Int32) (x3 : Int32) (x4 : Int32) : Nat → Int32 → Int32 → Int32 → Int32 → Int32 → Int32 → (Nat → Int32) → (Nat → Int32) → (Nat → Int32) → (Nat → Int32) → (Nat → Int32) → (Nat → Int32) → (Nat → Int32) → Bool
  | 0 => fun _ _ _ _ _ _ _ _ _ _ _ _ _ => false
  | n + 1 => fun x5 x6 f0_n f0_full f0_known f0_found a1 a2 a3 a4 a5 a6 a7 => (if 32 ≤ x6 then (postB f0_found (f0_n, f0_full, f0_known, f0_found, a1, a2, a3, a4, a5, a6, a7)) else (oq_X_countRests_37 postB (oq_X_countRests_27 postB x2 x3 x4 n) x2 x3 x4 x5 x6 8 0 f0_n f0_full f0_known f0_found a1 a2 a3 a4 a5 a6 a7))
theorem oq_s_X_countRests_27 {post : Int32 → St2 → Prop} {postB : Int32 → St2 → Bool} (hpost : ∀ v0 v1, postB v0 v1 = true → post v0 v1) {x2 : Int32} {x3 : Int32} {x4 : Int32} : ∀ (n : Nat) (x5 : Int32) (x6 : Int32) (f0_n : Int32) (f0_full : Int32) (f0_known : Int32) (f0_found : Int32) (a1 : (Nat → Int32)) (a2 : (Nat → Int32)) (a3 : (Nat → Int32)) (a4 : (Nat → Int32)) (a5 : (Nat → Int32)) (a6 : (Nat → Int32)) (a7 : (Nat → Int32)), oq_X_countRests_27 postB x2 x3 x4 n x5 x6 f0_n f0_full f0_known f0_found a1 a2 a3 a4 a5 a6 a7 = true → wX_countRests_27 post x2 x3 x4 n x5 x6 f0_n f0_full f0_known f0_found a1 a2 a3 a4 a5 a6 a7 := by
  intro n
  induction n with
  | zero => intro x5 x6 f0_n f0_full f0_known f0_found a1 a2 a3 a4 a5 a6 a7 h; exact absurd h Bool.false_ne_true
  | succ n ih =>
    intro x5 x6 f0_n f0_full f0_known f0_found a1 a2 a3 a4 a5 a6 a7
    refine oq_br ?_ ?_
    · exact hpost _ _
    · refine oq_ex 8 ?_
      exact oq_s_X_countRests_37 hpost ih _ _ _ _ _ _ _ _ _ _ _ _ _
def oq_pX_countRests (postB : Int32 → St2 → Bool) (u : St2) (p0 : Int32) (p1 : Int32) : Bool := match u with
  | (f0_n, f0_full, f0_known, f0_found, a1, a2, a3, a4, a5, a6, a7) => (oq_li (p0 ||| ((1 : Int32) <<< (p1 &&& 31))) (fun x3_1 => (oq_li (f0_full &&& (x3_1 ^^^ (-1))) (fun x4_2 => (oq_X_countRests_27 postB p1 x3_1 x4_2 8 0 0 f0_n f0_full f0_known 0 a1 a2 a3 a4 a5 a6 a7)))))
theorem oq_s_pX_countRests {post : Int32 → St2 → Prop} {postB : Int32 → St2 → Bool} (hpost : ∀ v0 v1, postB v0 v1 = true → post v0 v1) {u : St2} {p0 : Int32} {p1 : Int32} : oq_pX_countRests postB u p0 p1 = true → wpX_countRests post u p0 p1 := by
  obtain ⟨f0_n, f0_full, f0_known, f0_found, a1, a2, a3, a4, a5, a6, a7⟩ := u
  unfold oq_pX_countRests wpX_countRests
  refine oq_li_s (fun x3_1 => ?_)
  refine oq_li_s (fun x4_2 => ?_)
  refine oq_ex 8 ?_
  exact oq_s_X_countRests_27 hpost _ _ _ _ _ _ _ _ _ _ _ _ _ _
end
section
def oq_X_workOut_113 (postB : St2 → Bool) : Nat → Int32 → Int32 → Int32 → Int32 → Int32 → (Nat → Int32) → (Nat → Int32) → (Nat → Int32) → (Nat → Int32) → (Nat → Int32) → (Nat → Int32) → (Nat → Int32) → Bool
  | 0 => fun _ _ _ _ _ _ _ _ _ _ _ _ => false
  | n + 1 => fun x1 f0_n f0_full f0_known f0_found a1 a2 a3 a4 a5 a6 a7 => (if f0_full < x1 then (postB (f0_n, f0_full, f0_known, f0_found, a1, a2, a3, a4, a5, a6, a7)) else (oq_pX_sumBefore (fun u => match u with | (f0_n_12, f0_full_13, f0_known_14, f0_found_15, am1231_18, am1232_21, am1233_24, am1234_27, am1235_30, am1236_33, am1237_36) => (oq_li (x1 + 1) (fun x1_37 => (oq_X_workOut_113 postB n x1_37 f0_n_12 f0_full_13 f0_known_14 f0_found_15 am1231_18 am1232_21 am1233_24 am1234_27 am1235_30 am1236_33 am1237_36)))) (f0_n, f0_full, f0_known, f0_found, a1, a2, a3, a4, a5, a6, a7) x1))
theorem oq_s_X_workOut_113 {post : St2 → Prop} {postB : St2 → Bool} (hpost : ∀ v0, postB v0 = true → post v0) : ∀ (n : Nat) (x1 : Int32) (f0_n : Int32) (f0_full : Int32) (f0_known : Int32) (f0_found : Int32) (a1 : (Nat → Int32)) (a2 : (Nat → Int32)) (a3 : (Nat → Int32)) (a4 : (Nat → Int32)) (a5 : (Nat → Int32)) (a6 : (Nat → Int32)) (a7 : (Nat → Int32)), oq_X_workOut_113 postB n x1 f0_n f0_full f0_known f0_found a1 a2 a3 a4 a5 a6 a7 = true → wX_workOut_113 post n x1 f0_n f0_full f0_known f0_found a1 a2 a3 a4 a5 a6 a7 := by
  intro n
  induction n with
  | zero => intro x1 f0_n f0_full f0_known f0_found a1 a2 a3 a4 a5 a6 a7 h; exact absurd h Bool.false_ne_true
  | succ n ih =>
    intro x1 f0_n f0_full f0_known f0_found a1 a2 a3 a4 a5 a6 a7
    refine oq_br ?_ ?_
    · exact hpost _
    · refine oq_s_pX_sumBefore (fun ⟨f0_n_12, f0_full_13, f0_known_14, f0_found_15, am1231_18, am1232_21, am1233_24, am1234_27, am1235_30, am1236_33, am1237_36⟩ => ?_)
      refine oq_li_s (fun x1_37 => ?_)
      exact ih _ _ _ _ _ _ _ _ _ _ _ _
def oq_X_workOut_92 (postB : St2 → Bool) : Nat → Int32 → Int32 → Int32 → Int32 → Int32 → (Nat → Int32) → (Nat → Int32) → (Nat → Int32) → (Nat → Int32) → (Nat → Int32) → (Nat → Int32) → (Nat → Int32) → Bool
  | 0 => fun _ _ _ _ _ _ _ _ _ _ _ _ => false
  | n + 1 => fun x1 f0_n f0_full f0_known f0_found a1 a2 a3 a4 a5 a6 a7 => (if f0_full < x1 then (oq_X_workOut_113 postB 8 1 f0_n f0_full f0_known f0_found a1 a2 a3 a4 a5 a6 a7) else (oq_pX_sumBehind (fun u => match u with | (f0_n_39, f0_full_40, f0_known_41, f0_found_42, am1021_45, am1022_48, am1023_51, am1024_54, am1025_57, am1026_60, am1027_63) => (oq_li (x1 + 1) (fun x1_64 => (oq_X_workOut_92 postB n x1_64 f0_n_39 f0_full_40 f0_known_41 f0_found_42 am1021_45 am1022_48 am1023_51 am1024_54 am1025_57 am1026_60 am1027_63)))) (f0_n, f0_full, f0_known, f0_found, a1, a2, a3, a4, a5, a6, a7) x1))
theorem oq_s_X_workOut_92 {post : St2 → Prop} {postB : St2 → Bool} (hpost : ∀ v0, postB v0 = true → post v0) : ∀ (n : Nat) (x1 : Int32) (f0_n : Int32) (f0_full : Int32) (f0_known : Int32) (f0_found : Int32) (a1 : (Nat → Int32)) (a2 : (Nat → Int32)) (a3 : (Nat → Int32)) (a4 : (Nat → Int32)) (a5 : (Nat → Int32)) (a6 : (Nat → Int32)) (a7 : (Nat → Int32)), oq_X_workOut_92 postB n x1 f0_n f0_full f0_known f0_found a1 a2 a3 a4 a5 a6 a7 = true → wX_workOut_92 post n x1 f0_n f0_full f0_known f0_found a1 a2 a3 a4 a5 a6 a7 := by
  intro n
  induction n with
  | zero => intro x1 f0_n f0_full f0_known f0_found a1 a2 a3 a4 a5 a6 a7 h; exact absurd h Bool.false_ne_true
  | succ n ih =>
    intro x1 f0_n f0_full f0_known f0_found a1 a2 a3 a4 a5 a6 a7
    refine oq_br ?_ ?_
    · refine oq_ex 8 ?_
      exact oq_s_X_workOut_113 hpost _ _ _ _ _ _ _ _ _ _ _ _ _
    · refine oq_s_pX_sumBehind (fun ⟨f0_n_39, f0_full_40, f0_known_41, f0_found_42, am1021_45, am1022_48, am1023_51, am1024_54, am1025_57, am1026_60, am1027_63⟩ => ?_)
      refine oq_li_s (fun x1_64 => ?_)
      exact ih _ _ _ _ _ _ _ _ _ _ _ _
def oq_X_workOut_25 (postB : St2 → Bool) (J15B : Int32 → Int32 → Int32 → Int32 → Int32 → (Nat → Int32) → (Nat → Int32) → (Nat → Int32) → (Nat → Int32) → (Nat → Int32) → (Nat → Int32) → (Nat → Int32) → Bool) (x1 : Int32) : Nat → Int32 → Int32 → Int32 → Int32 → Int32 → (Nat → Int32) → (Nat → Int32) → (Nat → Int32) → (Nat → Int32) → (Nat → Int32) → (Nat → Int32) → (Nat → Int32) → Bool
  | 0 => fun _ _ _ _ _ _ _ _ _ _ _ _ => false
  | n + 1 => fun x2 f0_n f0_full f0_known f0_found a1 a2 a3 a4 a5 a6 a7 => (if f0_n ≤ x2 then (oq_li (x1 + 1) (fun x1_66 => (J15B x1_66 f0_n f0_full f0_known f0_found a1 a2 a3 a4 a5 a6 a7))) else (if (((x1.toUInt32 >>> (x2.toUInt32 &&& Int32.toUInt32 31)).toInt32) &&& 1) = 0 then (oq_pX_countRests (fun r_69 u => match u with | (f0_n_70, f0_full_71, f0_known_72, f0_found_73, am531_76, am532_79, a3_80, am534_83, am535_86, am536_89, am537_92) => (oq_in ((5 * x1) + x2) 160 && (oq_la (upd a3_80 ((5 * x1) + x2).toNatClampNeg r_69) (fun a3_94 => (oq_li (x2 + 1) (fun x2_95 => (oq_X_workOut_25 postB J15B x1 n x2_95 f0_n_70 f0_full_71 f0_known_72 f0_found_73 am531_76 am532_79 a3_94 am534_83 am535_86 am536_89 am537_92))))))) (f0_n, f0_full, f0_known, f0_found, a1, a2, a3, a4, a5, a6, a7) x1 x2) else (oq_li (x2 + 1) (fun x2_68 => (oq_X_workOut_25 postB J15B x1 n x2_68 f0_n f0_full f0_known f0_found a1 a2 a3 a4 a5 a6 a7)))))
theorem oq_s_X_workOut_25 {post : St2 → Prop} {postB : St2 → Bool} (hpost : ∀ v0, postB v0 = true → post v0) {J15 : Int32 → Int32 → Int32 → Int32 → Int32 → (Nat → Int32) → (Nat → Int32) → (Nat → Int32) → (Nat → Int32) → (Nat → Int32) → (Nat → Int32) → (Nat → Int32) → Prop} {J15B : Int32 → Int32 → Int32 → Int32 → Int32 → (Nat → Int32) → (Nat → Int32) → (Nat → Int32) → (Nat → Int32) → (Nat → Int32) → (Nat → Int32) → (Nat → Int32) → Bool} (hJ15 : ∀ v0 v1 v2 v3 v4 v5 v6 v7 v8 v9 v10 v11, J15B v0 v1 v2 v3 v4 v5 v6 v7 v8 v9 v10 v11 = true → J15 v0 v1 v2 v3 v4 v5 v6 v7 v8 v9 v10 v11) {x1 : Int32} : ∀ (n : Nat) (x2 : Int32) (f0_n : Int32) (f0_full : Int32) (f0_known : Int32) (f0_found : Int32) (a1 : (Nat → Int32)) (a2 : (Nat → Int32)) (a3 : (Nat → Int32)) (a4 : (Nat → Int32)) (a5 : (Nat → Int32)) (a6 : (Nat → Int32)) (a7 : (Nat → Int32)), oq_X_workOut_25 postB J15B x1 n x2 f0_n f0_full f0_known f0_found a1 a2 a3 a4 a5 a6 a7 = true → wX_workOut_25 post J15 x1 n x2 f0_n f0_full f0_known f0_found a1 a2 a3 a4 a5 a6 a7 := by
  intro n
  induction n with
  | zero => intro x2 f0_n f0_full f0_known f0_found a1 a2 a3 a4 a5 a6 a7 h; exact absurd h Bool.false_ne_true
  | succ n ih =>
    intro x2 f0_n f0_full f0_known f0_found a1 a2 a3 a4 a5 a6 a7
    refine oq_br ?_ ?_
    · refine oq_li_s (fun x1_66 => ?_)
      exact hJ15 _ _ _ _ _ _ _ _ _ _ _ _
    · refine oq_br ?_ ?_
      · refine oq_s_pX_countRests (fun r_69 ⟨f0_n_70, f0_full_71, f0_known_72, f0_found_73, am531_76, am532_79, a3_80, am534_83, am535_86, am536_89, am537_92⟩ => ?_)
        refine oq_and ?_
        refine oq_la_s (fun a3_94 => ?_)
        refine oq_li_s (fun x2_95 => ?_)
        exact ih _ _ _ _ _ _ _ _ _ _ _ _
      · refine oq_li_s (fun x2_68 => ?_)
        exact ih _ _ _ _ _ _ _ _ _ _ _ _
def oq_X_workOut_15 (postB : St2 → Bool) : Nat → Int32 → Int32 → Int32 → Int32 → Int32 → (Nat → Int32) → (Nat → Int32) → (Nat → Int32) → (Nat → Int32) → (Nat → Int32) → (Nat → Int32) → (Nat → Int32) → Bool
  | 0 => fun _ _ _ _ _ _ _ _ _ _ _ _ => false
  | n + 1 => fun x1 f0_n f0_full f0_known f0_found a1 a2 a3 a4 a5 a6 a7 => (if f0_full < x1 then (oq_la (upd a4 0 0) (fun a4_4 => (oq_la (upd a5 0 0) (fun a5_6 => (oq_la (upd a6 0 0) (fun a6_8 => (oq_X_workOut_92 postB 8 1 f0_n f0_full f0_known f0_found a1 a2 a3 a4_4 a5_6 a6_8 a7))))))) else (oq_X_workOut_25 postB (oq_X_workOut_15 postB n) x1 8 0 f0_n f0_full f0_known f0_found a1 a2 a3 a4 a5 a6 a7))
theorem oq_s_X_workOut_15 {post : St2 → Prop} {postB : St2 → Bool} (hpost : ∀ v0, postB v0 = true → post v0) : ∀ (n : Nat) (x1 : Int32) (f0_n : Int32) (f0_full : Int32) (f0_known : Int32) (f0_found : Int32) (a1 : (Nat → Int32)) (a2 : (Nat → Int32)) (a3 : (Nat → Int32)) (a4 : (Nat → Int32)) (a5 : (Nat → Int32)) (a6 : (Nat → Int32)) (a7 : (Nat → Int32)), oq_X_workOut_15 postB n x1 f0_n f0_full f0_known f0_found a1 a2 a3 a4 a5 a6 a7 = true → wX_workOut_15 post n x1 f0_n f0_full f0_known f0_found a1 a2 a3 a4 a5 a6 a7 := by
  intro n
  induction n with
  | zero => intro x1 f0_n f0_full f0_known f0_found a1 a2 a3 a4 a5 a6 a7 h; exact absurd h Bool.false_ne_true
  | succ n ih =>
    intro x1 f0_n f0_full f0_known f0_found a1 a2 a3 a4 a5 a6 a7
    refine oq_br ?_ ?_
    · refine oq_la_s (fun a4_4 => ?_)
      refine oq_la_s (fun a5_6 => ?_)
      refine oq_la_s (fun a6_8 => ?_)
      refine oq_ex 8 ?_
      exact oq_s_X_workOut_92 hpost _ _ _ _ _ _ _ _ _ _ _ _ _
    · refine oq_ex 8 ?_
      exact oq_s_X_workOut_25 hpost ih _ _ _ _ _ _ _ _ _ _ _ _ _
def oq_pX_workOut (postB : St2 → Bool) (u : St2) : Bool := match u with
  | (f0_n, f0_full, f0_known, f0_found, a1, a2, a3, a4, a5, a6, a7) => (if f0_known = 0 then (oq_X_workOut_15 postB 8 0 f0_n f0_full 1 f0_found a1 a2 a3 a4 a5 a6 a7) else (postB (f0_n, f0_full, f0_known, f0_found, a1, a2, a3, a4, a5, a6, a7)))
theorem oq_s_pX_workOut {post : St2 → Prop} {postB : St2 → Bool} (hpost : ∀ v0, postB v0 = true → post v0) {u : St2} : oq_pX_workOut postB u = true → wpX_workOut post u := by
  obtain ⟨f0_n, f0_full, f0_known, f0_found, a1, a2, a3, a4, a5, a6, a7⟩ := u
  refine oq_br ?_ ?_
  · refine oq_ex 8 ?_
    exact oq_s_X_workOut_15 hpost _ _ _ _ _ _ _ _ _ _ _ _ _
  · exact hpost _
def oq_X_widthAt_6 (postB : Int32 → Bool) (x1 : Int32) (f0_n : Int32) (f0_full : Int32) (f0_known : Int32) (f0_found : Int32) (a1 : Nat → Int32) (a2 : Nat → Int32) (a3 : Nat → Int32) (a4 : Nat → Int32) (a5 : Nat → Int32) (a6 : Nat → Int32) (a7 : Nat → Int32) : Nat → Int32 → Int32 → Bool
  | 0 => fun _ _ => false
  | n + 1 => fun x2 x3 => (if f0_n ≤ x3 then (oq_in x1 5 && (oq_in ((5 * x2) + (a2 x1.toNatClampNeg)) 160 && (postB (a3 ((5 * x2) + (a2 x1.toNatClampNeg)).toNatClampNeg)))) else (oq_in x3 5 && (oq_li (x2 ||| ((1 : Int32) <<< ((a2 x3.toNatClampNeg) &&& 31))) (fun x2_6 => (oq_li (x3 + 1) (fun x3_7 => (oq_X_widthAt_6 postB x1 f0_n f0_full f0_known f0_found a1 a2 a3 a4 a5 a6 a7 n x2_6 x3_7)))))))
theorem oq_s_X_widthAt_6 {post : Int32 → Prop} {postB : Int32 → Bool} (hpost : ∀ v0, postB v0 = true → post v0) {x1 : Int32} {f0_n : Int32} {f0_full : Int32} {f0_known : Int32} {f0_found : Int32} {a1 : Nat → Int32} {a2 : Nat → Int32} {a3 : Nat → Int32} {a4 : Nat → Int32} {a5 : Nat → Int32} {a6 : Nat → Int32} {a7 : Nat → Int32} : ∀ (n : Nat) (x2 : Int32) (x3 : Int32), oq_X_widthAt_6 postB x1 f0_n f0_full f0_known f0_found a1 a2 a3 a4 a5 a6 a7 n x2 x3 = true → wX_widthAt_6 post x1 f0_n f0_full f0_known f0_found a1 a2 a3 a4 a5 a6 a7 n x2 x3 := by
  intro n
  induction n with
  | zero => intro x2 x3 h; exact absurd h Bool.false_ne_true
  | succ n ih =>
    intro x2 x3
    refine oq_br ?_ ?_
    · refine oq_and ?_
      refine oq_and ?_
      exact hpost _
    · refine oq_and ?_
      refine oq_li_s (fun x2_6 => ?_)
      refine oq_li_s (fun x3_7 => ?_)
      exact ih _ _
def oq_pX_widthAt (postB : Int32 → Bool) (u : St2) (p0 : Int32) : Bool := match u with
  | (f0_n, f0_full, f0_known, f0_found, a1, a2, a3, a4, a5, a6, a7) => (oq_li (p0 + 1) (fun x3_1 => (oq_X_widthAt_6 postB p0 f0_n f0_full f0_known f0_found a1 a2 a3 a4 a5 a6 a7 8 0 x3_1)))
theorem oq_s_pX_widthAt {post : Int32 → Prop} {postB : Int32 → Bool} (hpost : ∀ v0, postB v0 = true → post v0) {u : St2} {p0 : Int32} : oq_pX_widthAt postB u p0 = true → wpX_widthAt post u p0 := by
  obtain ⟨f0_n, f0_full, f0_known, f0_found, a1, a2, a3, a4, a5, a6, a7⟩ := u
  unfold oq_pX_widthAt wpX_widthAt
  refine oq_li_s (fun x3_1 => ?_)
  refine oq_ex 8 ?_
  exact oq_s_X_widthAt_6 hpost _ _ _
def oq_pX_width (postB : Int32 → St2 → Bool) (u : St2) (p0 : Int32) : Bool := match u with
  | (f0_n, f0_full, f0_known, f0_found, a1, a2, a3, a4, a5, a6, a7) => (oq_pX_inRange (fun r_1 => (if r_1 = 0 then (postB (-1) (f0_n, f0_full, f0_known, f0_found, a1, a2, a3, a4, a5, a6, a7)) else (oq_pX_workOut (fun u => match u with | (f0_n_4, f0_full_5, f0_known_6, f0_found_7, am111_10, am112_13, am113_16, am114_19, am115_22, am116_25, am117_28) => (oq_pX_widthAt (fun r_29 => (postB r_29 (f0_n_4, f0_full_5, f0_known_6, f0_found_7, am111_10, am112_13, am113_16, am114_19, am115_22, am116_25, am117_28))) (f0_n_4, f0_full_5, f0_known_6, f0_found_7, am111_10, am112_13, am113_16, am114_19, am115_22, am116_25, am117_28) p0)) (f0_n, f0_full, f0_known, f0_found, a1, a2, a3, a4, a5, a6, a7)))) (f0_n, f0_full, f0_known, f0_found, a1, a2, a3, a4, a5, a6, a7) p0)
theorem oq_s_pX_width {post : Int32 → St2 → Prop} {postB : Int32 → St2 → Bool} (hpost : ∀ v0 v1, postB v0 v1 = true → post v0 v1) {u : St2} {p0 : Int32} : oq_pX_width postB u p0 = true → wpX_width post u p0 := by
  obtain ⟨f0_n, f0_full, f0_known, f0_found, a1, a2, a3, a4, a5, a6, a7⟩ := u
  unfold oq_pX_width wpX_width
  refine oq_s_pX_inRange (fun r_1 => ?_)
  refine oq_br ?_ ?_
  · exact hpost _ _
  · refine oq_s_pX_workOut (fun ⟨f0_n_4, f0_full_5, f0_known_6, f0_found_7, am111_10, am112_13, am113_16, am114_19, am115_22, am116_25, am117_28⟩ => ?_)
    refine oq_s_pX_widthAt (fun r_29 => ?_)
    exact hpost _ _
def oq_X_size_8 (postB : Int32 → St2 → Bool) (f0_n : Int32) (f0_full : Int32) (f0_known : Int32) (f0_found : Int32) (am11 : Nat → Int32) (am12 : Nat → Int32) (am13 : Nat → Int32) (am14 : Nat → Int32) (am15 : Nat → Int32) (am16 : Nat → Int32) (am17 : Nat → Int32) : Nat → Int32 → Int32 → Bool
  | 0 => fun _ _ => false
  | n + 1 => fun x1 x2 => (if f0_n ≤ x2 then (postB x1 (f0_n, f0_full, f0_known, f0_found, am11, am12, am13, am14, am15, am16, am17)) else (oq_pX_widthAt (fun r_28 => (oq_li (x1 + r_28) (fun x1_29 => (oq_li (x2 + 1) (fun x2_30 => (oq_X_size_8 postB f0_n f0_full f0_known f0_found am11 am12 am13 am14 am15 am16 am17 n x1_29 x2_30)))))) (f0_n, f0_full, f0_known, f0_found, am11, am12, am13, am14, am15, am16, am17) x2))
theorem oq_s_X_size_8 {post : Int32 → St2 → Prop} {postB : Int32 → St2 → Bool} (hpost : ∀ v0 v1, postB v0 v1 = true → post v0 v1) {f0_n : Int32} {f0_full : Int32} {f0_known : Int32} {f0_found : Int32} {am11 : Nat → Int32} {am12 : Nat → Int32} {am13 : Nat → Int32} {am14 : Nat → Int32} {am15 : Nat → Int32} {am16 : Nat → Int32} {am17 : Nat → Int32} : ∀ (n : Nat) (x1 : Int32) (x2 : Int32), oq_X_size_8 postB f0_n f0_full f0_known f0_found am11 am12 am13 am14 am15 am16 am17 n x1 x2 = true → wX_size_8 post f0_n f0_full f0_known f0_found am11 am12 am13 am14 am15 am16 am17 n x1 x2 := by
  intro n
  induction n with
  | zero => intro x1 x2 h; exact absurd h Bool.false_ne_true
  | succ n ih =>
    intro x1 x2
    refine oq_br ?_ ?_
    · exact hpost _ _
    · refine oq_s_pX_widthAt (fun r_28 => ?_)
      refine oq_li_s (fun x1_29 => ?_)
      refine oq_li_s (fun x2_30 => ?_)
      exact ih _ _
def oq_pX_size (postB : Int32 → St2 → Bool) (u : St2) : Bool := match u with
  | (f0_n, f0_full, f0_known, f0_found, a1, a2, a3, a4, a5, a6, a7) => (oq_pX_workOut (fun u => match u with | (f0_n_2, f0_full_3, f0_known_4, f0_found_5, am11_8, am12_11, am13_14, am14_17, am15_20, am16_23, am17_26) => (oq_X_size_8 postB f0_n_2 f0_full_3 f0_known_4 f0_found_5 am11_8 am12_11 am13_14 am14_17 am15_20 am16_23 am17_26 8 0 0)) (f0_n, f0_full, f0_known, f0_found, a1, a2, a3, a4, a5, a6, a7))
theorem oq_s_pX_size {post : Int32 → St2 → Prop} {postB : Int32 → St2 → Bool} (hpost : ∀ v0 v1, postB v0 v1 = true → post v0 v1) {u : St2} : oq_pX_size postB u = true → wpX_size post u := by
  obtain ⟨f0_n, f0_full, f0_known, f0_found, a1, a2, a3, a4, a5, a6, a7⟩ := u
  unfold oq_pX_size wpX_size
  refine oq_s_pX_workOut (fun ⟨f0_n_2, f0_full_3, f0_known_4, f0_found_5, am11_8, am12_11, am13_14, am14_17, am15_20, am16_23, am17_26⟩ => ?_)
  refine oq_ex 8 ?_
  exact oq_s_X_size_8 hpost _ _ _
def oq_pX_swap (postB : Int32 → St2 → Bool) (u : St2) (p0 : Int32) (p1 : Int32) : Bool := match u with
  | (f0_n, f0_full, f0_known, f0_found, a1, a2, a3, a4, a5, a6, a7) => (oq_pX_inRange (fun r_1 => (if r_1 = 0 then (postB (-1) (f0_n, f0_full, f0_known, f0_found, a1, a2, a3, a4, a5, a6, a7)) else (oq_pX_inRange (fun r_3 => (if r_3 = 0 then (postB (-1) (f0_n, f0_full, f0_known, f0_found, a1, a2, a3, a4, a5, a6, a7)) else (oq_in p0 5 && (oq_li (a2 p0.toNatClampNeg) (fun x3_6 => (oq_in p1 5 && (oq_in p0 5 && (oq_la (upd a2 p0.toNatClampNeg (a2 p1.toNatClampNeg)) (fun a2_9 => (oq_in p1 5 && (oq_la (upd a2_9 p1.toNatClampNeg x3_6) (fun a2_11 => (postB 0 (f0_n, f0_full, f0_known, f0_found, a1, a2_11, a3, a4, a5, a6, a7)))))))))))))) (f0_n, f0_full, f0_known, f0_found, a1, a2, a3, a4, a5, a6, a7) p1))) (f0_n, f0_full, f0_known, f0_found, a1, a2, a3, a4, a5, a6, a7) p0)
theorem oq_s_pX_swap {post : Int32 → St2 → Prop} {postB : Int32 → St2 → Bool} (hpost : ∀ v0 v1, postB v0 v1 = true → post v0 v1) {u : St2} {p0 : Int32} {p1 : Int32} : oq_pX_swap postB u p0 p1 = true → wpX_swap post u p0 p1 := by
  obtain ⟨f0_n, f0_full, f0_known, f0_found, a1, a2, a3, a4, a5, a6, a7⟩ := u
  unfold oq_pX_swap wpX_swap
  refine oq_s_pX_inRange (fun r_1 => ?_)
  refine oq_br ?_ ?_
  · exact hpost _ _
  · refine oq_s_pX_inRange (fun r_3 => ?_)
    refine oq_br ?_ ?_
    · exact hpost _ _
    · refine oq_and ?_
      refine oq_li_s (fun x3_6 => ?_)
      refine oq_and ?_
      refine oq_and ?_
      refine oq_la_s (fun a2_9 => ?_)
      refine oq_and ?_
      refine oq_la_s (fun a2_11 => ?_)
      exact hpost _ _
def oq_pX_least (postB : Int32 → St2 → Bool) (u : St2) : Bool := match u with
  | (f0_n, f0_full, f0_known, f0_found, a1, a2, a3, a4, a5, a6, a7) => (oq_pX_workOut (fun u => match u with | (f0_n_2, f0_full_3, f0_known_4, f0_found_5, am11_8, am12_11, am13_14, am14_17, am15_20, am16_23, am17_26) => (oq_in f0_full_3 32 && (postB (am14_17 f0_full_3.toNatClampNeg) (f0_n_2, f0_full_3, f0_known_4, f0_found_5, am11_8, am12_11, am13_14, am14_17, am15_20, am16_23, am17_26)))) (f0_n, f0_full, f0_known, f0_found, a1, a2, a3, a4, a5, a6, a7))
theorem oq_s_pX_least {post : Int32 → St2 → Prop} {postB : Int32 → St2 → Bool} (hpost : ∀ v0 v1, postB v0 v1 = true → post v0 v1) {u : St2} : oq_pX_least postB u = true → wpX_least post u := by
  obtain ⟨f0_n, f0_full, f0_known, f0_found, a1, a2, a3, a4, a5, a6, a7⟩ := u
  unfold oq_pX_least wpX_least
  refine oq_s_pX_workOut (fun ⟨f0_n_2, f0_full_3, f0_known_4, f0_found_5, am11_8, am12_11, am13_14, am14_17, am15_20, am16_23, am17_26⟩ => ?_)
  refine oq_and ?_
  exact hpost _ _
def oq_pX_greatest (postB : Int32 → St2 → Bool) (u : St2) : Bool := match u with
  | (f0_n, f0_full, f0_known, f0_found, a1, a2, a3, a4, a5, a6, a7) => (oq_pX_workOut (fun u => match u with | (f0_n_2, f0_full_3, f0_known_4, f0_found_5, am11_8, am12_11, am13_14, am14_17, am15_20, am16_23, am17_26) => (oq_in f0_full_3 32 && (postB (am15_20 f0_full_3.toNatClampNeg) (f0_n_2, f0_full_3, f0_known_4, f0_found_5, am11_8, am12_11, am13_14, am14_17, am15_20, am16_23, am17_26)))) (f0_n, f0_full, f0_known, f0_found, a1, a2, a3, a4, a5, a6, a7))
theorem oq_s_pX_greatest {post : Int32 → St2 → Prop} {postB : Int32 → St2 → Bool} (hpost : ∀ v0 v1, postB v0 v1 = true → post v0 v1) {u : St2} : oq_pX_greatest postB u = true → wpX_greatest post u := by
  obtain ⟨f0_n, f0_full, f0_known, f0_found, a1, a2, a3, a4, a5, a6, a7⟩ := u
  unfold oq_pX_greatest wpX_greatest
  refine oq_s_pX_workOut (fun ⟨f0_n_2, f0_full_3, f0_known_4, f0_found_5, am11_8, am12_11, am13_14, am14_17, am15_20, am16_23, am17_26⟩ => ?_)
  refine oq_and ?_
  exact hpost _ _
def oq_X_bestOnTop_2 (postB : Int32 → Bool) (x1 : Int32) (f0_n : Int32) (f0_full : Int32) (f0_known : Int32) (f0_found : Int32) (a1 : Nat → Int32) (a2 : Nat → Int32) (a3 : Nat → Int32) (a4 : Nat → Int32) (a5 : Nat → Int32) (a6 : Nat → Int32) (a7 : Nat → Int32) : Nat → Int32 → Bool
  | 0 => fun _ => false
  | n + 1 => fun x2 => (if f0_n ≤ x2 then (postB 0) else (if (((x1.toUInt32 >>> (x2.toUInt32 &&& Int32.toUInt32 31)).toInt32) &&& 1) = 0 then (oq_li (x2 + 1) (fun x2_3 => (oq_X_bestOnTop_2 postB x1 f0_n f0_full f0_known f0_found a1 a2 a3 a4 a5 a6 a7 n x2_3))) else (oq_li (x1 &&& (((1 : Int32) <<< (x2 &&& 31)) ^^^ (-1))) (fun x3_4 => (oq_in ((5 * x3_4) + x2) 160 && (oq_in x3_4 32 && (oq_in x1 32 && (if ((a3 ((5 * x3_4) + x2).toNatClampNeg) + (a4 x3_4.toNatClampNeg)) = (a4 x1.toNatClampNeg) then (postB x2) else (oq_li (x2 + 1) (fun x2_9 => (oq_X_bestOnTop_2 postB x1 f0_n f0_full f0_known f0_found a1 a2 a3 a4 a5 a6 a7 n x2_9)))))))))))
theorem oq_s_X_bestOnTop_2 {post : Int32 → Prop} {postB : Int32 → Bool} (hpost : ∀ v0, postB v0 = true → post v0) {x1 : Int32} {f0_n : Int32} {f0_full : Int32} {f0_known : Int32} {f0_found : Int32} {a1 : Nat → Int32} {a2 : Nat → Int32} {a3 : Nat → Int32} {a4 : Nat → Int32} {a5 : Nat → Int32} {a6 : Nat → Int32} {a7 : Nat → Int32} : ∀ (n : Nat) (x2 : Int32), oq_X_bestOnTop_2 postB x1 f0_n f0_full f0_known f0_found a1 a2 a3 a4 a5 a6 a7 n x2 = true → wX_bestOnTop_2 post x1 f0_n f0_full f0_known f0_found a1 a2 a3 a4 a5 a6 a7 n x2 := by
  intro n
  induction n with
  | zero => intro x2 h; exact absurd h Bool.false_ne_true
  | succ n ih =>
    intro x2
    refine oq_br ?_ ?_
    · exact hpost _
    · refine oq_br ?_ ?_
      · refine oq_li_s (fun x2_3 => ?_)
        exact ih _
      · refine oq_li_s (fun x3_4 => ?_)
        refine oq_and ?_
        refine oq_and ?_
        refine oq_and ?_
        refine oq_br ?_ ?_
        · exact hpost _
        · refine oq_li_s (fun x2_9 => ?_)
          exact ih _
def oq_pX_bestOnTop (postB : Int32 → Bool) (u : St2) (p0 : Int32) : Bool := match u with
  | (f0_n, f0_full, f0_known, f0_found, a1, a2, a3, a4, a5, a6, a7) => (oq_X_bestOnTop_2 postB p0 f0_n f0_full f0_known f0_found a1 a2 a3 a4 a5 a6 a7 8 0)
theorem oq_s_pX_bestOnTop {post : Int32 → Prop} {postB : Int32 → Bool} (hpost : ∀ v0, postB v0 = true → post v0) {u : St2} {p0 : Int32} : oq_pX_bestOnTop postB u p0 = true → wpX_bestOnTop post u p0 := by
  obtain ⟨f0_n, f0_full, f0_known, f0_found, a1, a2, a3, a4, a5, a6, a7⟩ := u
  refine oq_ex 8 ?_
  exact oq_s_X_bestOnTop_2 hpost _ _
def oq_X_best_24 (postB : Int32 → St2 → Bool) (x1 : Int32) (f0_n : Int32) (f0_full : Int32) (f0_known : Int32) (f0_found : Int32) (am111 : Nat → Int32) (am112 : Nat → Int32) (am113 : Nat → Int32) (am114 : Nat → Int32) (am115 : Nat → Int32) (am116 : Nat → Int32) (am117 : Nat → Int32) : Nat → Int32 → Int32 → Int32 → Bool
  | 0 => fun _ _ _ => false
  | n + 1 => fun x2 x3 x4 => (if x1 < x4 then (postB x3 (f0_n, f0_full, f0_known, f0_found, am111, am112, am113, am114, am115, am116, am117)) else (oq_pX_bestOnTop (fun r_30 => (oq_li (x2 &&& (((1 : Int32) <<< (r_30 &&& 31)) ^^^ (-1))) (fun x2_31 => (oq_li (x4 + 1) (fun x4_32 => (oq_X_best_24 postB x1 f0_n f0_full f0_known f0_found am111 am112 am113 am114 am115 am116 am117 n x2_31 r_30 x4_32)))))) (f0_n, f0_full, f0_known, f0_found, am111, am112, am113, am114, am115, am116, am117) x2))
theorem oq_s_X_best_24 {post : Int32 → St2 → Prop} {postB : Int32 → St2 → Bool} (hpost : ∀ v0 v1, postB v0 v1 = true → post v0 v1) {x1 : Int32} {f0_n : Int32} {f0_full : Int32} {f0_known : Int32} {f0_found : Int32} {am111 : Nat → Int32} {am112 : Nat → Int32} {am113 : Nat → Int32} {am114 : Nat → Int32} {am115 : Nat → Int32} {am116 : Nat → Int32} {am117 : Nat → Int32} : ∀ (n : Nat) (x2 : Int32) (x3 : Int32) (x4 : Int32), oq_X_best_24 postB x1 f0_n f0_full f0_known f0_found am111 am112 am113 am114 am115 am116 am117 n x2 x3 x4 = true → wX_best_24 post x1 f0_n f0_full f0_known f0_found am111 am112 am113 am114 am115 am116 am117 n x2 x3 x4 := by
  intro n
  induction n with
  | zero => intro x2 x3 x4 h; exact absurd h Bool.false_ne_true
  | succ n ih =>
    intro x2 x3 x4
    refine oq_br ?_ ?_
    · exact hpost _ _
    · refine oq_s_pX_bestOnTop (fun r_30 => ?_)
      refine oq_li_s (fun x2_31 => ?_)
      refine oq_li_s (fun x4_32 => ?_)
      exact ih _ _ _
def oq_pX_best (postB : Int32 → St2 → Bool) (u : St2) (p0 : Int32) : Bool := match u with
  | (f0_n, f0_full, f0_known, f0_found, a1, a2, a3, a4, a5, a6, a7) => (oq_pX_inRange (fun r_1 => (if r_1 = 0 then (postB (-1) (f0_n, f0_full, f0_known, f0_found, a1, a2, a3, a4, a5, a6, a7)) else (oq_pX_workOut (fun u => match u with | (f0_n_4, f0_full_5, f0_known_6, f0_found_7, am111_10, am112_13, am113_16, am114_19, am115_22, am116_25, am117_28) => (oq_X_best_24 postB p0 f0_n_4 f0_full_5 f0_known_6 f0_found_7 am111_10 am112_13 am113_16 am114_19 am115_22 am116_25 am117_28 8 f0_full_5 0 0)) (f0_n, f0_full, f0_known, f0_found, a1, a2, a3, a4, a5, a6, a7)))) (f0_n, f0_full, f0_known, f0_found, a1, a2, a3, a4, a5, a6, a7) p0)
theorem oq_s_pX_best {post : Int32 → St2 → Prop} {postB : Int32 → St2 → Bool} (hpost : ∀ v0 v1, postB v0 v1 = true → post v0 v1) {u : St2} {p0 : Int32} : oq_pX_best postB u p0 = true → wpX_best post u p0 := by
  obtain ⟨f0_n, f0_full, f0_known, f0_found, a1, a2, a3, a4, a5, a6, a7⟩ := u
  unfold oq_pX_best wpX_best
  refine oq_s_pX_inRange (fun r_1 => ?_)
  refine oq_br ?_ ?_
  · exact hpost _ _
  · refine oq_s_pX_workOut (fun ⟨f0_n_4, f0_full_5, f0_known_6, f0_found_7, am111_10, am112_13, am113_16, am114_19, am115_22, am116_25, am117_28⟩ => ?_)
    refine oq_ex 8 ?_
    exact oq_s_X_best_24 hpost _ _ _ _
def oq_L_lawOf_253 (postB : Int32 → St0 → Bool) (mc : Nat) (ms : Nat) (z0 : Int32) (z1 : Int32) (kc : Nat) (ks : Nat) : Bool := (if z1 = z0 then (postB 1 ()) else (postB 0 ()))
theorem oq_s_L_lawOf_253 {post : Int32 → St0 → Prop} {postB : Int32 → St0 → Bool} (hpost : ∀ v0 v1, postB v0 v1 = true → post v0 v1) {mc : Nat} {ms : Nat} {z0 : Int32} {z1 : Int32} {kc : Nat} {ks : Nat} : oq_L_lawOf_253 postB mc ms z0 z1 kc ks = true → wL_lawOf_253 post mc ms z0 z1 kc ks := by
  refine oq_br ?_ ?_
  · exact hpost _ _
  · exact hpost _ _
def oq_L_lawOf_231 (postB : Int32 → St0 → Bool) (mc : Nat) (ms : Nat) (x10 : Int32) (x11 : Int32) (z0 : Int32) (z1 : Int32) (kc : Nat) (ks : Nat) (fm0_n : Int32) (fm0_full : Int32) (fm0_known : Int32) (fm0_found : Int32) (am2141 : Nat → Int32) (am2142 : Nat → Int32) (am2143 : Nat → Int32) (am2144 : Nat → Int32) (am2145 : Nat → Int32) (am2146 : Nat → Int32) (am2147 : Nat → Int32) : Bool := (if z1 = z0 then (oq_pX_best (fun r_291 u => match u with | (fm0_n_292, fm0_full_293, fm0_known_294, fm0_found_295, am2381_298, am2382_301, am2383_304, am2384_307, am2385_310, am2386_313, am2387_316) => (if x11 < x10 then (oq_L_lawOf_253 postB mc ms 1 r_291 kc ks) else (oq_L_lawOf_253 postB mc ms 0 r_291 kc ks))) (fm0_n, fm0_full, fm0_known, fm0_found, am2141, am2142, am2143, am2144, am2145, am2146, am2147) 0) else (postB 0 ()))
theorem oq_s_L_lawOf_231 {post : Int32 → St0 → Prop} {postB : Int32 → St0 → Bool} (hpost : ∀ v0 v1, postB v0 v1 = true → post v0 v1) {mc : Nat} {ms : Nat} {x10 : Int32} {x11 : Int32} {z0 : Int32} {z1 : Int32} {kc : Nat} {ks : Nat} {fm0_n : Int32} {fm0_full : Int32} {fm0_known : Int32} {fm0_found : Int32} {am2141 : Nat → Int32} {am2142 : Nat → Int32} {am2143 : Nat → Int32} {am2144 : Nat → Int32} {am2145 : Nat → Int32} {am2146 : Nat → Int32} {am2147 : Nat → Int32} : oq_L_lawOf_231 postB mc ms x10 x11 z0 z1 kc ks fm0_n fm0_full fm0_known fm0_found am2141 am2142 am2143 am2144 am2145 am2146 am2147 = true → wL_lawOf_231 post mc ms x10 x11 z0 z1 kc ks fm0_n fm0_full fm0_known fm0_found am2141 am2142 am2143 am2144 am2145 am2146 am2147 := by
  refine oq_br ?_ ?_
  · refine oq_s_pX_best (fun r_291 ⟨fm0_n_292, fm0_full_293, fm0_known_294, fm0_found_295, am2381_298, am2382_301, am2383_304, am2384_307, am2385_310, am2386_313, am2387_316⟩ => ?_)
    refine oq_br ?_ ?_
    · exact oq_s_L_lawOf_253 hpost
    · exact oq_s_L_lawOf_253 hpost
  · exact hpost _ _
def oq_L_lawOf_210 (postB : Int32 → St0 → Bool) (mc : Nat) (ms : Nat) (x10 : Int32) (x11 : Int32) (z0 : Int32) (z1 : Int32) (kc : Nat) (ks : Nat) (fm0_n : Int32) (fm0_full : Int32) (fm0_known : Int32) (fm0_found : Int32) (am1931 : Nat → Int32) (am1932 : Nat → Int32) (am1933 : Nat → Int32) (am1934 : Nat → Int32) (am1935 : Nat → Int32) (am1936 : Nat → Int32) (am1937 : Nat → Int32) : Bool := (if z1 = z0 then (oq_pX_greatest (fun r_263 u => match u with | (fm0_n_264, fm0_full_265, fm0_known_266, fm0_found_267, am2141_270, am2142_273, am2143_276, am2144_279, am2145_282, am2146_285, am2147_288) => (if x11 ≤ x10 then (oq_L_lawOf_231 postB mc ms x10 x11 x10 r_263 kc ks fm0_n_264 fm0_full_265 fm0_known_266 fm0_found_267 am2141_270 am2142_273 am2143_276 am2144_279 am2145_282 am2146_285 am2147_288) else (oq_L_lawOf_231 postB mc ms x10 x11 x11 r_263 kc ks fm0_n_264 fm0_full_265 fm0_known_266 fm0_found_267 am2141_270 am2142_273 am2143_276 am2144_279 am2145_282 am2146_285 am2147_288))) (fm0_n, fm0_full, fm0_known, fm0_found, am1931, am1932, am1933, am1934, am1935, am1936, am1937)) else (postB 0 ()))
theorem oq_s_L_lawOf_210 {post : Int32 → St0 → Prop} {postB : Int32 → St0 → Bool} (hpost : ∀ v0 v1, postB v0 v1 = true → post v0 v1) {mc : Nat} {ms : Nat} {x10 : Int32} {x11 : Int32} {z0 : Int32} {z1 : Int32} {kc : Nat} {ks : Nat} {fm0_n : Int32} {fm0_full : Int32} {fm0_known : Int32} {fm0_found : Int32} {am1931 : Nat → Int32} {am1932 : Nat → Int32} {am1933 : Nat → Int32} {am1934 : Nat → Int32} {am1935 : Nat → Int32} {am1936 : Nat → Int32} {am1937 : Nat → Int32} : oq_L_lawOf_210 postB mc ms x10 x11 z0 z1 kc ks fm0_n fm0_full fm0_known fm0_found am1931 am1932 am1933 am1934 am1935 am1936 am1937 = true → wL_lawOf_210 post mc ms x10 x11 z0 z1 kc ks fm0_n fm0_full fm0_known fm0_found am1931 am1932 am1933 am1934 am1935 am1936 am1937 := by
  refine oq_br ?_ ?_
  · refine oq_s_pX_greatest (fun r_263 ⟨fm0_n_264, fm0_full_265, fm0_known_266, fm0_found_267, am2141_270, am2142_273, am2143_276, am2144_279, am2145_282, am2146_285, am2147_288⟩ => ?_)
    refine oq_br ?_ ?_
    · exact oq_s_L_lawOf_231 hpost
    · exact oq_s_L_lawOf_231 hpost
  · exact hpost _ _
def oq_L_lawOf_94 (postB : Int32 → St0 → Bool) (mc : Nat) (ms : Nat) (x4 : Int32) (x5 : Int32) (x6 : Int32) (x7 : Int32) (x8 : Int32) (z0 : Int32) (kc : Nat) (ks : Nat) (fm0_n : Int32) (fm0_full : Int32) (fm0_known : Int32) (fm0_found : Int32) (am201 : Nat → Int32) (am202 : Nat → Int32) (am203 : Nat → Int32) (am204 : Nat → Int32) (am205 : Nat → Int32) (am206 : Nat → Int32) (am207 : Nat → Int32) : Bool := (oq_pL_second (fun r_69 => (oq_li (x8 + r_69) (fun x10_70 => (oq_pL_second (fun r_71 => (oq_li (z0 + r_71) (fun x11_72 => (oq_pX_width (fun r_73 u => match u with | (fm0_n_74, fm0_full_75, fm0_known_76, fm0_found_77, am1301_80, am1302_83, am1303_86, am1304_89, am1305_92, am1306_95, am1307_98) => (if r_73 = x8 then (oq_pX_size (fun r_100 u => match u with | (fm0_n_101, fm0_full_102, fm0_known_103, fm0_found_104, am1391_107, am1392_110, am1393_113, am1394_116, am1395_119, am1396_122, am1397_125) => (if r_100 = x10_70 then (oq_pX_swap (fun r_127 u => match u with | (fm0_n_128, fm0_full_129, fm0_known_130, fm0_found_131, am1501_134, am1502_137, am1503_140, am1504_143, am1505_146, am1506_149, am1507_152) => (if r_127 = 0 then (oq_pX_width (fun r_154 u => match u with | (fm0_n_155, fm0_full_156, fm0_known_157, fm0_found_158, am1601_161, am1602_164, am1603_167, am1604_170, am1605_173, am1606_176, am1607_179) => (if r_154 = z0 then (oq_pX_width (fun r_181 u => match u with | (fm0_n_182, fm0_full_183, fm0_known_184, fm0_found_185, am1701_188, am1702_191, am1703_194, am1704_197, am1705_200, am1706_203, am1707_206) => (if r_181 = (x11_72 - z0) then (oq_pX_size (fun r_208 u => match u with | (fm0_n_209, fm0_full_210, fm0_known_211, fm0_found_212, am1821_215, am1822_218, am1823_221, am1824_224, am1825_227, am1826_230, am1827_233) => (if r_208 = x11_72 then (oq_pX_least (fun r_235 u => match u with | (fm0_n_236, fm0_full_237, fm0_known_238, fm0_found_239, am1931_242, am1932_245, am1933_248, am1934_251, am1935_254, am1936_257, am1937_260) => (if x11_72 ≤ x10_70 then (oq_L_lawOf_210 postB mc ms x10_70 x11_72 x11_72 r_235 kc ks fm0_n_236 fm0_full_237 fm0_known_238 fm0_found_239 am1931_242 am1932_245 am1933_248 am1934_251 am1935_254 am1936_257 am1937_260) else (oq_L_lawOf_210 postB mc ms x10_70 x11_72 x10_70 r_235 kc ks fm0_n_236 fm0_full_237 fm0_known_238 fm0_found_239 am1931_242 am1932_245 am1933_248 am1934_251 am1935_254 am1936_257 am1937_260))) (fm0_n_209, fm0_full_210, fm0_known_211, fm0_found_212, am1821_215, am1822_218, am1823_221, am1824_224, am1825_227, am1826_230, am1827_233)) else (postB 0 ()))) (fm0_n_182, fm0_full_183, fm0_known_184, fm0_found_185, am1701_188, am1702_191, am1703_194, am1704_197, am1705_200, am1706_203, am1707_206)) else (postB 0 ()))) (fm0_n_155, fm0_full_156, fm0_known_157, fm0_found_158, am1601_161, am1602_164, am1603_167, am1604_170, am1605_173, am1606_176, am1607_179) 1) else (postB 0 ()))) (fm0_n_128, fm0_full_129, fm0_known_130, fm0_found_131, am1501_134, am1502_137, am1503_140, am1504_143, am1505_146, am1506_149, am1507_152) 0) else (postB 0 ()))) (fm0_n_101, fm0_full_102, fm0_known_103, fm0_found_104, am1391_107, am1392_110, am1393_113, am1394_116, am1395_119, am1396_122, am1397_125) 1 0) else (postB 0 ()))) (fm0_n_74, fm0_full_75, fm0_known_76, fm0_found_77, am1301_80, am1302_83, am1303_86, am1304_89, am1305_92, am1306_95, am1307_98)) else (postB 0 ()))) (fm0_n, fm0_full, fm0_known, fm0_found, am201, am202, am203, am204, am205, am206, am207) 0)))) () x4 x5 x6 x7)))) () x4 x6 x5 x7)
theorem oq_s_L_lawOf_94 {post : Int32 → St0 → Prop} {postB : Int32 → St0 → Bool} (hpost : ∀ v0 v1, postB v0 v1 = true → post v0 v1) {mc : Nat} {ms : Nat} {x4 : Int32} {x5 : Int32} {x6 : Int32} {x7 : Int32} {x8 : Int32} {z0 : Int32} {kc : Nat} {ks : Nat} {fm0_n : Int32} {fm0_full : Int32} {fm0_known : Int32} {fm0_found : Int32} {am201 : Nat → Int32} {am202 : Nat → Int32} {am203 : Nat → Int32} {am204 : Nat → Int32} {am205 : Nat → Int32} {am206 : Nat → Int32} {am207 : Nat → Int32} : oq_L_lawOf_94 postB mc ms x4 x5 x6 x7 x8 z0 kc ks fm0_n fm0_full fm0_known fm0_found am201 am202 am203 am204 am205 am206 am207 = true → wL_lawOf_94 post mc ms x4 x5 x6 x7 x8 z0 kc ks fm0_n fm0_full fm0_known fm0_found am201 am202 am203 am204 am205 am206 am207 := by
  unfold oq_L_lawOf_94 wL_lawOf_94
  refine oq_s_pL_second (fun r_69 => ?_)
  refine oq_li_s (fun x10_70 => ?_)
  refine oq_s_pL_second (fun r_71 => ?_)
  refine oq_li_s (fun x11_72 => ?_)
  refine oq_s_pX_width (fun r_73 ⟨fm0_n_74, fm0_full_75, fm0_known_76, fm0_found_77, am1301_80, am1302_83, am1303_86, am1304_89, am1305_92, am1306_95, am1307_98⟩ => ?_)
  refine oq_br ?_ ?_
  · refine oq_s_pX_size (fun r_100 ⟨fm0_n_101, fm0_full_102, fm0_known_103, fm0_found_104, am1391_107, am1392_110, am1393_113, am1394_116, am1395_119, am1396_122, am1397_125⟩ => ?_)
    refine oq_br ?_ ?_
    · refine oq_s_pX_swap (fun r_127 ⟨fm0_n_128, fm0_full_129, fm0_known_130, fm0_found_131, am1501_134, am1502_137, am1503_140, am1504_143, am1505_146, am1506_149, am1507_152⟩ => ?_)
      refine oq_br ?_ ?_
      · refine oq_s_pX_width (fun r_154 ⟨fm0_n_155, fm0_full_156, fm0_known_157, fm0_found_158, am1601_161, am1602_164, am1603_167, am1604_170, am1605_173, am1606_176, am1607_179⟩ => ?_)
        refine oq_br ?_ ?_
        · refine oq_s_pX_width (fun r_181 ⟨fm0_n_182, fm0_full_183, fm0_known_184, fm0_found_185, am1701_188, am1702_191, am1703_194, am1704_197, am1705_200, am1706_203, am1707_206⟩ => ?_)
          refine oq_br ?_ ?_
          · refine oq_s_pX_size (fun r_208 ⟨fm0_n_209, fm0_full_210, fm0_known_211, fm0_found_212, am1821_215, am1822_218, am1823_221, am1824_224, am1825_227, am1826_230, am1827_233⟩ => ?_)
            refine oq_br ?_ ?_
            · refine oq_s_pX_least (fun r_235 ⟨fm0_n_236, fm0_full_237, fm0_known_238, fm0_found_239, am1931_242, am1932_245, am1933_248, am1934_251, am1935_254, am1936_257, am1937_260⟩ => ?_)
              refine oq_br ?_ ?_
              · exact oq_s_L_lawOf_210 hpost
              · exact oq_s_L_lawOf_210 hpost
            · exact hpost _ _
          · exact hpost _ _
        · exact hpost _ _
      · exact hpost _ _
    · exact hpost _ _
  · exact hpost _ _
def oq_L_lawOf_89 (postB : Int32 → St0 → Bool) (mc : Nat) (ms : Nat) (x4 : Int32) (x5 : Int32) (x6 : Int32) (x7 : Int32) (x8 : Int32) (kc : Nat) (ks : Nat) (fm0_n : Int32) (fm0_full : Int32) (fm0_known : Int32) (fm0_found : Int32) (am201 : Nat → Int32) (am202 : Nat → Int32) (am203 : Nat → Int32) (am204 : Nat → Int32) (am205 : Nat → Int32) (am206 : Nat → Int32) (am207 : Nat → Int32) : Bool := (oq_L_lawOf_94 postB mc ms x4 x5 x6 x7 x8 1 kc ks fm0_n fm0_full fm0_known fm0_found am201 am202 am203 am204 am205 am206 am207)
theorem oq_s_L_lawOf_89 {post : Int32 → St0 → Prop} {postB : Int32 → St0 → Bool} (hpost : ∀ v0 v1, postB v0 v1 = true → post v0 v1) {mc : Nat} {ms : Nat} {x4 : Int32} {x5 : Int32} {x6 : Int32} {x7 : Int32} {x8 : Int32} {kc : Nat} {ks : Nat} {fm0_n : Int32} {fm0_full : Int32} {fm0_known : Int32} {fm0_found : Int32} {am201 : Nat → Int32} {am202 : Nat → Int32} {am203 : Nat → Int32} {am204 : Nat → Int32} {am205 : Nat → Int32} {am206 : Nat → Int32} {am207 : Nat → Int32} : oq_L_lawOf_89 postB mc ms x4 x5 x6 x7 x8 kc ks fm0_n fm0_full fm0_known fm0_found am201 am202 am203 am204 am205 am206 am207 = true → wL_lawOf_89 post mc ms x4 x5 x6 x7 x8 kc ks fm0_n fm0_full fm0_known fm0_found am201 am202 am203 am204 am205 am206 am207 := by
  unfold oq_L_lawOf_89 wL_lawOf_89
  exact oq_s_L_lawOf_94 hpost
def oq_L_lawOf_73 (postB : Int32 → St0 → Bool) (mc : Nat) (ms : Nat) (x4 : Int32) (x5 : Int32) (x6 : Int32) (x7 : Int32) (z0 : Int32) (kc : Nat) (ks : Nat) (fm0_n : Int32) (fm0_full : Int32) (fm0_known : Int32) (fm0_found : Int32) (am201 : Nat → Int32) (am202 : Nat → Int32) (am203 : Nat → Int32) (am204 : Nat → Int32) (am205 : Nat → Int32) (am206 : Nat → Int32) (am207 : Nat → Int32) : Bool := (if x4 = x6 then (if x5 = x7 then (oq_L_lawOf_94 postB mc ms x4 x5 x6 x7 z0 0 kc ks fm0_n fm0_full fm0_known fm0_found am201 am202 am203 am204 am205 am206 am207) else (oq_L_lawOf_89 postB mc ms x4 x5 x6 x7 z0 kc ks fm0_n fm0_full fm0_known fm0_found am201 am202 am203 am204 am205 am206 am207)) else (oq_L_lawOf_89 postB mc ms x4 x5 x6 x7 z0 kc ks fm0_n fm0_full fm0_known fm0_found am201 am202 am203 am204 am205 am206 am207))
theorem oq_s_L_lawOf_73 {post : Int32 → St0 → Prop} {postB : Int32 → St0 → Bool} (hpost : ∀ v0 v1, postB v0 v1 = true → post v0 v1) {mc : Nat} {ms : Nat} {x4 : Int32} {x5 : Int32} {x6 : Int32} {x7 : Int32} {z0 : Int32} {kc : Nat} {ks : Nat} {fm0_n : Int32} {fm0_full : Int32} {fm0_known : Int32} {fm0_found : Int32} {am201 : Nat → Int32} {am202 : Nat → Int32} {am203 : Nat → Int32} {am204 : Nat → Int32} {am205 : Nat → Int32} {am206 : Nat → Int32} {am207 : Nat → Int32} : oq_L_lawOf_73 postB mc ms x4 x5 x6 x7 z0 kc ks fm0_n fm0_full fm0_known fm0_found am201 am202 am203 am204 am205 am206 am207 = true → wL_lawOf_73 post mc ms x4 x5 x6 x7 z0 kc ks fm0_n fm0_full fm0_known fm0_found am201 am202 am203 am204 am205 am206 am207 := by
  refine oq_br ?_ ?_
  · refine oq_br ?_ ?_
    · exact oq_s_L_lawOf_94 hpost
    · exact oq_s_L_lawOf_89 hpost
  · exact oq_s_L_lawOf_89 hpost
def oq_L_lawOf_68 (postB : Int32 → St0 → Bool) (mc : Nat) (ms : Nat) (x4 : Int32) (x5 : Int32) (x6 : Int32) (x7 : Int32) (kc : Nat) (ks : Nat) (fm0_n : Int32) (fm0_full : Int32) (fm0_known : Int32) (fm0_found : Int32) (am201 : Nat → Int32) (am202 : Nat → Int32) (am203 : Nat → Int32) (am204 : Nat → Int32) (am205 : Nat → Int32) (am206 : Nat → Int32) (am207 : Nat → Int32) : Bool := (oq_L_lawOf_73 postB mc ms x4 x5 x6 x7 1 kc ks fm0_n fm0_full fm0_known fm0_found am201 am202 am203 am204 am205 am206 am207)
theorem oq_s_L_lawOf_68 {post : Int32 → St0 → Prop} {postB : Int32 → St0 → Bool} (hpost : ∀ v0 v1, postB v0 v1 = true → post v0 v1) {mc : Nat} {ms : Nat} {x4 : Int32} {x5 : Int32} {x6 : Int32} {x7 : Int32} {kc : Nat} {ks : Nat} {fm0_n : Int32} {fm0_full : Int32} {fm0_known : Int32} {fm0_found : Int32} {am201 : Nat → Int32} {am202 : Nat → Int32} {am203 : Nat → Int32} {am204 : Nat → Int32} {am205 : Nat → Int32} {am206 : Nat → Int32} {am207 : Nat → Int32} : oq_L_lawOf_68 postB mc ms x4 x5 x6 x7 kc ks fm0_n fm0_full fm0_known fm0_found am201 am202 am203 am204 am205 am206 am207 = true → wL_lawOf_68 post mc ms x4 x5 x6 x7 kc ks fm0_n fm0_full fm0_known fm0_found am201 am202 am203 am204 am205 am206 am207 := by
  unfold oq_L_lawOf_68 wL_lawOf_68
  exact oq_s_L_lawOf_73 hpost
end
section
/-! what the law takes of its two ints: a number below 3, and four bits -/
def oq_bt (x : Int32) (i : Nat) : Bool := x.toBitVec.getLsbD i
theorem oq_bext {x y : Int32} (h : ∀ i, i < 32 → oq_bt x i = oq_bt y i) : x = y := Int32.toBitVec_inj.mp (BitVec.eq_of_getLsbD_eq (fun i hi => h i hi))
theorem oq_band (x y : Int32) (i : Nat) : oq_bt (x &&& y) i = (oq_bt x i && oq_bt y i) := by unfold oq_bt; rw [Int32.toBitVec_and, BitVec.getLsbD_and]
theorem oq_sl : ∀ n, n < 32 → ((nI n &&& 31).toBitVec.smod 32).toNat = n := by decide +kernel
theorem oq_bsshr (n : Nat) (hn : n < 32) (x : Int32) {i : Nat} (hi : i < 32) : oq_bt (x >>> (nI n &&& 31)) i = if n + i < 32 then oq_bt x (n + i) else oq_bt x 31 := by
  unfold oq_bt
  rw [Int32.toBitVec_shiftRight]
  show (x.toBitVec.sshiftRight ((nI n &&& 31).toBitVec.smod 32).toNat).getLsbD i = _
  rw [oq_sl n hn, BitVec.getLsbD_sshiftRight, BitVec.msb_eq_getLsbD_last]
  simp [hi]
theorem oq_b1 : ∀ i, i < 32 → i ≠ 0 → oq_bt 1 i = false := by decide +kernel
theorem oq_b15 : ∀ i, i < 4 → oq_bt 15 i = true := by decide +kernel
theorem oq_bit (s : Nat) (hs : s < 4) (x : Int32) : (x >>> (nI s &&& 31)) &&& 1 = ((x &&& 15) >>> (nI s &&& 31)) &&& 1 := by
  apply oq_bext
  intro i hi
  rw [oq_band, oq_band]
  by_cases h0 : i = 0
  · rw [h0, oq_bsshr s (by omega) x (by omega), oq_bsshr s (by omega) (x &&& 15) (by omega), if_pos (by omega), if_pos (by omega), oq_band, oq_b15 (s + 0) (by omega), Bool.and_true]
  · rw [oq_b1 i hi h0, Bool.and_false, Bool.and_false]
theorem oq_bit0 (x : Int32) : x &&& 1 = (x &&& 15) &&& 1 := by
  apply oq_bext
  intro i hi
  rw [oq_band, oq_band, oq_band]
  by_cases h0 : i = 0
  · rw [h0, oq_b15 0 (by omega), Bool.and_true]
  · rw [oq_b1 i hi h0, Bool.and_false, Bool.and_false]
theorem oq_k (p : Int32) : ∃ k : Nat, k < 16 ∧ p &&& (((1 : Int32) <<< (((1 : Int32) <<< ((2 : Int32) &&& 31)) &&& 31)) - 1) = nI k ∧ p &&& 1 = nI k &&& 1 ∧ (p >>> ((1 : Int32) &&& 31)) &&& 1 = (nI k >>> ((1 : Int32) &&& 31)) &&& 1 ∧ (p >>> ((2 : Int32) &&& 31)) &&& 1 = (nI k >>> ((2 : Int32) &&& 31)) &&& 1 ∧ (p >>> ((3 : Int32) &&& 31)) &&& 1 = (nI k >>> ((3 : Int32) &&& 31)) &&& 1 := by
  obtain ⟨k, hk, e⟩ := pk_andE p (m := 15) 4 (by decide)
  have hm : (((1 : Int32) <<< (((1 : Int32) <<< ((2 : Int32) &&& 31)) &&& 31)) - 1) = 15 := by decide
  refine ⟨k, hk, by rw [hm]; exact e, ?_, ?_, ?_, ?_⟩
  · rw [← e]; exact oq_bit0 p
  · rw [← e]; exact oq_bit 1 (by omega) p
  · rw [← e]; exact oq_bit 2 (by omega) p
  · rw [← e]; exact oq_bit 3 (by omega) p
theorem oq_f (p : Int32) : ∃ f : Nat, f < 3 ∧ (p &&& 255) - (p &&& 255) / 3 * 3 = nI f := by
  obtain ⟨j, hj, e⟩ := pk_andE p (m := 255) 8 (by decide)
  refine ⟨j % 3, Nat.mod_lt _ (by omega), ?_⟩
  rw [e]
  exact pk_rem (d := 3) (by omega) (by omega) (by omega)
end
section
/-! the law's run: the object made and loaded, then the mirror over the 48 cases -/
def oq_o : Nat → Nat → Int32
  | 0 => fun _ => 0
  | i + 1 => upd (oq_o i) i (nI i)
theorem oq_init {post : St2 → Prop} (h : post (2, 3, 0, 0, (fun _ => 0), oq_o 5, (fun _ => 0), (fun _ => 0), (fun _ => 0), (fun _ => 0), (fun _ => 0))) : wpX_init post 7 328 (0, 0, 0, 0) 2 := by
  have H : ∃ n, wX_init_96 post 7 328 (0 + 7) (0 + 328) 2 3 0 0 n 0 (fun _ => 0) (fun _ => 0) (fun _ => 0) (fun _ => 0) (fun _ => 0) (fun _ => 0) (fun _ => 0) :=
    pk_loop (fun n i s => wX_init_96 post 7 328 (0 + 7) (0 + 328) 2 3 0 0 n (nI i) (fun _ => 0) s (fun _ => 0) (fun _ => 0) (fun _ => 0) (fun _ => 0) (fun _ => 0)) (fun i s => s = oq_o i) 5 0 (fun _ => 0) (by omega) rfl
      (fun n s hs => pk_le 5 5 (fun _ => by rw [hs]; exact h) (fun z => absurd z (by omega)))
      (fun n i s hi hs hw => pk_le 5 i (fun z => absurd z (by omega)) (fun _ => ⟨pk_in i 5 hi, nm_r (e' := oq_o (i + 1)) (by rw [nI_clamp (by omega), hs]; rfl) (nm_r (nI_1 i) (hw _ rfl))⟩))
  refine br_t (by decide) (br_t (by decide) ?_)
  unfold wX_init_24
  refine nm_r (e' := 3) (by decide) ?_
  exact ⟨by omega, by omega, by omega, by omega, by omega, by omega, by omega, by omega, by omega, by omega, by omega, by omega, by omega, by omega, H⟩
theorem oq_load {post : Int32 → St2 → Prop} {f k : Nat} {p : Int32} {b2 b3 b4 b5 b6 b7 : Nat → Int32} (hf : f < 3) (ek : p &&& (((1 : Int32) <<< (((1 : Int32) <<< ((2 : Int32) &&& 31)) &&& 31)) - 1) = nI k)
    (h : post 0 (2, 3, 0, 0, upd (fun _ => 0) f (nI k), b2, b3, b4, b5, b6, b7)) : wpX_load post (2, 3, 0, 0, (fun _ => 0), b2, b3, b4, b5, b6, b7) (nI f) p :=
  br_f (nI_pos (by omega)) (br_t (nI_le (b := 2) (by omega) (by decide)) (br_f (by decide) ⟨vp_in_nI hf (by decide), nm_r (e' := upd (fun _ => 0) f (nI k)) (by rw [nI_clamp (by omega), ek]) h⟩))
def oq_tl (x4 x5 x6 x7 : Int32) (b1 b2 b3 b4 b5 b6 b7 : Nat → Int32) : Bool :=
  if x4 = x5 then (if x6 = x7 then oq_L_lawOf_73 (fun r _ => decide (r = 1)) 8 339 x4 x5 x6 x7 0 (1 + 7) (11 + 328) 2 3 0 0 b1 b2 b3 b4 b5 b6 b7 else oq_L_lawOf_68 (fun r _ => decide (r = 1)) 8 339 x4 x5 x6 x7 (1 + 7) (11 + 328) 2 3 0 0 b1 b2 b3 b4 b5 b6 b7)
  else oq_L_lawOf_68 (fun r _ => decide (r = 1)) 8 339 x4 x5 x6 x7 (1 + 7) (11 + 328) 2 3 0 0 b1 b2 b3 b4 b5 b6 b7
theorem oq_hp : ∀ (r : Int32) (u : St0), (fun (r : Int32) (_ : St0) => decide (r = 1)) r u = true → (fun (r : Int32) (_ : St0) => r = 1) r u := fun _ _ h => of_decide_eq_true h
theorem oq_tl_s {x4 x5 x6 x7 : Int32} {b1 b2 b3 b4 b5 b6 b7 : Nat → Int32} : oq_tl x4 x5 x6 x7 b1 b2 b3 b4 b5 b6 b7 = true →
    ((x4 = x5 → ((x6 = x7 → wL_lawOf_73 (fun r _ => r = 1) 8 339 x4 x5 x6 x7 0 (1 + 7) (11 + 328) 2 3 0 0 b1 b2 b3 b4 b5 b6 b7) ∧ (¬ x6 = x7 → wL_lawOf_68 (fun r _ => r = 1) 8 339 x4 x5 x6 x7 (1 + 7) (11 + 328) 2 3 0 0 b1 b2 b3 b4 b5 b6 b7)))
      ∧ (¬ x4 = x5 → wL_lawOf_68 (fun r _ => r = 1) 8 339 x4 x5 x6 x7 (1 + 7) (11 + 328) 2 3 0 0 b1 b2 b3 b4 b5 b6 b7)) := by
  refine oq_br ?_ ?_
  · refine oq_br ?_ ?_
    · exact oq_s_L_lawOf_73 oq_hp
    · exact oq_s_L_lawOf_68 oq_hp
  · exact oq_s_L_lawOf_68 oq_hp
def oq_case (f k : Nat) : Bool := oq_tl (nI k &&& 1) ((nI k >>> ((1 : Int32) &&& 31)) &&& 1) ((nI k >>> ((2 : Int32) &&& 31)) &&& 1) ((nI k >>> ((3 : Int32) &&& 31)) &&& 1) (upd (fun _ => 0) f (nI k)) (oq_o 5) (fun _ => 0) (fun _ => 0) (fun _ => 0) (fun _ => 0) (fun _ => 0)
theorem oq_all : ∀ f, f < 3 → ∀ k, k < 16 → oq_case f k = true := by decide +kernel
theorem oq_lawOf (p0 p1 : Int32) : wpL_lawOf (fun r _ => r = 1) 8 339 () p0 p1 := by
  obtain ⟨f, hf, ef⟩ := oq_f p0
  obtain ⟨k, hk, ek, e0, e1, e2, e3⟩ := oq_k p1
  unfold wpL_lawOf
  refine ⟨by omega, by omega, 7, 328, by omega, by omega, oq_init ?_⟩
  refine ⟨by decide, nm_r ef ?_⟩
  refine oq_load hf ek ?_
  refine br_t rfl ?_
  refine nm_r e0 (nm_r e1 (nm_r e2 (nm_r e3 ?_)))
  exact oq_tl_s (oq_all f hf k hk)
theorem oq_cell {post : Int32 → Prop} {L : Nat} {xs : Nat → Int32} (hL : L ≤ 2) (j : Nat) (hj : j < 2) (h : ∀ r, post r) : wpL_cellAt post L xs () (nI j) :=
  pk_le L j (fun _ => h 0) (fun z => ⟨pk_in j L z, h _⟩)
theorem i_vc (xs : Nat → Int32) (L : Nat) (hL : L ≤ 2) : wpL_law (fun r => r = 1) L xs := by
  unfold wpL_law
  refine oq_cell hL 0 (by omega) (fun r1 => ?_)
  refine oq_cell hL 1 (by omega) (fun r2 => ?_)
  exact ⟨8, 339, by omega, by omega, oq_lawOf r1 r2⟩
end
