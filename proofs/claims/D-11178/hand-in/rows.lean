section
/-! The small rows that the mirrors rest on. -/
def cn_in (i : Int32) (n : Nat) : Bool := decide (¬ (i < 0 ∨ n ≤ i.toNatClampNeg))
def cn_let {α : Type} (e : α) (p : α → Bool) : Bool := p e
theorem cn_br {c A B : Prop} [Decidable c] {a b : Bool} (h : (if c then a else b) = true) (ha : a = true → A) (hb : b = true → B) : (c → A) ∧ (¬ c → B) :=
  ⟨fun z => ha (by rw [if_pos z] at h; exact h), fun z => hb (by rw [if_neg z] at h; exact h)⟩
theorem cn_an {A B : Prop} [Decidable A] {b : Bool} (h : (decide A && b) = true) (hb : b = true → B) : A ∧ B := by
  rw [Bool.and_eq_true] at h
  exact ⟨of_decide_eq_true h.1, hb h.2⟩
theorem cn_vp {i : Int32} {n : Nat} {B : Prop} {b : Bool} (h : (cn_in i n && b) = true) (hb : b = true → B) : vp_in i n ∧ B := by
  rw [Bool.and_eq_true] at h
  have h1 : ¬ (i < 0 ∨ n ≤ i.toNatClampNeg) := of_decide_eq_true h.1
  exact ⟨h1, hb h.2⟩
theorem cn_nm {α : Type} {e : α} {p : α → Bool} {Q : α → Prop} (h : cn_let e p = true) (hq : ∀ x, p x = true → Q x) : ∀ x, x = e → Q x :=
  fun x hx => hq x (by rw [hx]; exact h)
/-! Computable mirrors (Bool) of the printed predicates, and that they are sound. Printed by wip/D-11178/gen.py. -/

def nb_wX_init_76 (post : St2 → Bool) (mc : Nat) (ms : Nat) (kc : Nat) (ks : Nat) (f0_count : Int32) (f0_known : Int32) (f0_made : Int32) (f0_done : Int32) (f0_loopCount : Int32) (f0_tired : Int32) (f0_waiting : Int32) : Nat → Int32 → (Nat → Int32) → (Nat → Int32) → (Nat → Int32) → (Nat → Int32) → (Nat → Int32) → (Nat → Int32) → (Nat → Int32) → (Nat → Int32) → Bool
  | 0 => fun _ _ _ _ _ _ _ _ _ => false
  | n + 1 => fun x1 am7 am15 am24 am33 am42 am51 am60 am69 => (if 34 ≤ x1 then (post (f0_count, f0_known, f0_made, f0_done, f0_loopCount, f0_tired, f0_waiting, am7, am15, am24, am33, am42, am51, am60, am69)) else (cn_in x1 34 && (cn_let (α := Nat → Int32) (upd am15 x1.toNatClampNeg (-1)) (fun am15_35 => (cn_let (α := Int32) (x1 + 1) (fun x1_36 => (nb_wX_init_76 post mc ms kc ks f0_count f0_known f0_made f0_done f0_loopCount f0_tired f0_waiting n x1_36 am7 am15_35 am24 am33 am42 am51 am60 am69)))))))
theorem ns_wX_init_76 (post : St2 → Bool) (qost : St2 → Prop) (hp : ∀ v0, post v0 = true → qost v0) (mc : Nat) (ms : Nat) (kc : Nat) (ks : Nat) (f0_count : Int32) (f0_known : Int32) (f0_made : Int32) (f0_done : Int32) (f0_loopCount : Int32) (f0_tired : Int32) (f0_waiting : Int32) : ∀ (n : Nat) (x1 : Int32) (am7 : (Nat → Int32)) (am15 : (Nat → Int32)) (am24 : (Nat → Int32)) (am33 : (Nat → Int32)) (am42 : (Nat → Int32)) (am51 : (Nat → Int32)) (am60 : (Nat → Int32)) (am69 : (Nat → Int32)), nb_wX_init_76 post mc ms kc ks f0_count f0_known f0_made f0_done f0_loopCount f0_tired f0_waiting n x1 am7 am15 am24 am33 am42 am51 am60 am69 = true → wX_init_76 qost mc ms kc ks f0_count f0_known f0_made f0_done f0_loopCount f0_tired f0_waiting n x1 am7 am15 am24 am33 am42 am51 am60 am69 := by
  intro n
  induction n with
  | zero => intro x1 am7 am15 am24 am33 am42 am51 am60 am69 h; exact absurd h Bool.false_ne_true
  | succ n ih =>
    intro x1 am7 am15 am24 am33 am42 am51 am60 am69 h
    refine cn_br h (fun h => ?_) (fun h => ?_)
    · exact hp _ h
    · refine cn_vp h (fun h => ?_)
      refine cn_nm h (fun am15_35 h => ?_)
      refine cn_nm h (fun x1_36 h => ?_)
      exact ih _ _ _ _ _ _ _ _ _ h
def nb_wpX_cell (post : Int32 → St2 → Bool) (u : St2) (p0 : Int32) : Bool := match u with
  | (f0_count, f0_known, f0_made, f0_done, f0_loopCount, f0_tired, f0_waiting, a1, a2, a3, a4, a5, a6, a7, a8) => (if p0 < 0 then (post (-1) (f0_count, f0_known, f0_made, f0_done, f0_loopCount, f0_tired, f0_waiting, a1, a2, a3, a4, a5, a6, a7, a8)) else (if p0 ≤ 2 then (if f0_count = 10 then (post (-2) (f0_count, f0_known, f0_made, f0_done, f0_loopCount, f0_tired, f0_waiting, a1, a2, a3, a4, a5, a6, a7, a8)) else (cn_in f0_count 10 && (cn_let (α := Nat → Int32) (upd a1 f0_count.toNatClampNeg p0) (fun a1_5 => (cn_let (α := Int32) (f0_count + 1) (fun f_6 => (post (f_6 - 1) (f_6, 0, f0_made, f0_done, f0_loopCount, f0_tired, f0_waiting, a1_5, a2, a3, a4, a5, a6, a7, a8)))))))) else (post (-1) (f0_count, f0_known, f0_made, f0_done, f0_loopCount, f0_tired, f0_waiting, a1, a2, a3, a4, a5, a6, a7, a8))))
theorem ns_wpX_cell (post : Int32 → St2 → Bool) (qost : Int32 → St2 → Prop) (hp : ∀ v0 v1, post v0 v1 = true → qost v0 v1) (u : St2) (p0 : Int32) (h : nb_wpX_cell post u p0 = true) : wpX_cell qost u p0 := by
  obtain ⟨f0_count, f0_known, f0_made, f0_done, f0_loopCount, f0_tired, f0_waiting, a1, a2, a3, a4, a5, a6, a7, a8⟩ := u
  unfold nb_wpX_cell at h
  unfold wpX_cell
  refine cn_br h (fun h => ?_) (fun h => ?_)
  · exact hp _ _ h
  · refine cn_br h (fun h => ?_) (fun h => ?_)
    · refine cn_br h (fun h => ?_) (fun h => ?_)
      · exact hp _ _ h
      · refine cn_vp h (fun h => ?_)
        refine cn_nm h (fun a1_5 h => ?_)
        refine cn_nm h (fun f_6 h => ?_)
        exact hp _ _ h
    · exact hp _ _ h
def nb_wpX_badPort (post : Int32 → Bool) (u : St2) (p0 : Int32) : Bool := match u with
  | (f0_count, f0_known, f0_made, f0_done, f0_loopCount, f0_tired, f0_waiting, a1, a2, a3, a4, a5, a6, a7, a8) => (if p0 < 0 then (post 1) else (if p0 ≤ 33 then (if p0 < 30 then (decide (¬ (3 : Int32) = 0) && (if f0_count ≤ (p0 / 3) then (post 1) else (decide (¬ (3 : Int32) = 0) && (cn_in (p0 / 3) 10 && (if (a1 (p0 / 3).toNatClampNeg) = 2 then (decide (¬ (3 : Int32) = 0) && (if (p0 - p0 / 3 * 3) ≤ 0 then (post 0) else (post 1))) else (post 0)))))) else (post 0)) else (post 1)))
theorem ns_wpX_badPort (post : Int32 → Bool) (qost : Int32 → Prop) (hp : ∀ v0, post v0 = true → qost v0) (u : St2) (p0 : Int32) (h : nb_wpX_badPort post u p0 = true) : wpX_badPort qost u p0 := by
  obtain ⟨f0_count, f0_known, f0_made, f0_done, f0_loopCount, f0_tired, f0_waiting, a1, a2, a3, a4, a5, a6, a7, a8⟩ := u
  unfold nb_wpX_badPort at h
  unfold wpX_badPort
  refine cn_br h (fun h => ?_) (fun h => ?_)
  · exact hp _ h
  · refine cn_br h (fun h => ?_) (fun h => ?_)
    · refine cn_br h (fun h => ?_) (fun h => ?_)
      · refine cn_an h (fun h => ?_)
        refine cn_br h (fun h => ?_) (fun h => ?_)
        · exact hp _ h
        · refine cn_an h (fun h => ?_)
          refine cn_vp h (fun h => ?_)
          refine cn_br h (fun h => ?_) (fun h => ?_)
          · refine cn_an h (fun h => ?_)
            refine cn_br h (fun h => ?_) (fun h => ?_)
            · exact hp _ h
            · exact hp _ h
          · exact hp _ h
      · exact hp _ h
    · exact hp _ h
def nb_wpX_join (post : Int32 → St2 → Bool) (u : St2) (p0 : Int32) (p1 : Int32) : Bool := match u with
  | (f0_count, f0_known, f0_made, f0_done, f0_loopCount, f0_tired, f0_waiting, a1, a2, a3, a4, a5, a6, a7, a8) => (nb_wpX_badPort (fun r_1 => (if r_1 = 0 then (nb_wpX_badPort (fun r_3 => (if r_3 = 0 then (if p0 = p1 then (post (-1) (f0_count, f0_known, f0_made, f0_done, f0_loopCount, f0_tired, f0_waiting, a1, a2, a3, a4, a5, a6, a7, a8)) else (cn_in p0 34 && (if (a2 p0.toNatClampNeg) = (-1) then (cn_in p1 34 && (if (a2 p1.toNatClampNeg) = (-1) then (cn_in p0 34 && (cn_let (α := Nat → Int32) (upd a2 p0.toNatClampNeg p1) (fun a2_11 => (cn_in p1 34 && (cn_let (α := Nat → Int32) (upd a2_11 p1.toNatClampNeg p0) (fun a2_13 => (post 0 (f0_count, 0, f0_made, f0_done, f0_loopCount, f0_tired, f0_waiting, a1, a2_13, a3, a4, a5, a6, a7, a8)))))))) else (post (-4) (f0_count, f0_known, f0_made, f0_done, f0_loopCount, f0_tired, f0_waiting, a1, a2, a3, a4, a5, a6, a7, a8)))) else (post (-4) (f0_count, f0_known, f0_made, f0_done, f0_loopCount, f0_tired, f0_waiting, a1, a2, a3, a4, a5, a6, a7, a8))))) else (post (-1) (f0_count, f0_known, f0_made, f0_done, f0_loopCount, f0_tired, f0_waiting, a1, a2, a3, a4, a5, a6, a7, a8)))) (f0_count, f0_known, f0_made, f0_done, f0_loopCount, f0_tired, f0_waiting, a1, a2, a3, a4, a5, a6, a7, a8) p1) else (post (-1) (f0_count, f0_known, f0_made, f0_done, f0_loopCount, f0_tired, f0_waiting, a1, a2, a3, a4, a5, a6, a7, a8)))) (f0_count, f0_known, f0_made, f0_done, f0_loopCount, f0_tired, f0_waiting, a1, a2, a3, a4, a5, a6, a7, a8) p0)
theorem ns_wpX_join (post : Int32 → St2 → Bool) (qost : Int32 → St2 → Prop) (hp : ∀ v0 v1, post v0 v1 = true → qost v0 v1) (u : St2) (p0 : Int32) (p1 : Int32) (h : nb_wpX_join post u p0 p1 = true) : wpX_join qost u p0 p1 := by
  obtain ⟨f0_count, f0_known, f0_made, f0_done, f0_loopCount, f0_tired, f0_waiting, a1, a2, a3, a4, a5, a6, a7, a8⟩ := u
  unfold nb_wpX_join at h
  unfold wpX_join
  refine ns_wpX_badPort _ _ (fun r_1 h => ?_) _ _ h
  refine cn_br h (fun h => ?_) (fun h => ?_)
  · refine ns_wpX_badPort _ _ (fun r_3 h => ?_) _ _ h
    refine cn_br h (fun h => ?_) (fun h => ?_)
    · refine cn_br h (fun h => ?_) (fun h => ?_)
      · exact hp _ _ h
      · refine cn_vp h (fun h => ?_)
        refine cn_br h (fun h => ?_) (fun h => ?_)
        · refine cn_vp h (fun h => ?_)
          refine cn_br h (fun h => ?_) (fun h => ?_)
          · refine cn_vp h (fun h => ?_)
            refine cn_nm h (fun a2_11 h => ?_)
            refine cn_vp h (fun h => ?_)
            refine cn_nm h (fun a2_13 h => ?_)
            exact hp _ _ h
          · exact hp _ _ h
        · exact hp _ _ h
    · exact hp _ _ h
  · exact hp _ _ h
def nb_wpX_isHead (post : Int32 → Bool) (u : St2) (p0 : Int32) : Bool := match u with
  | (f0_count, f0_known, f0_made, f0_done, f0_loopCount, f0_tired, f0_waiting, a1, a2, a3, a4, a5, a6, a7, a8) => (if p0 < 0 then (post 0) else (if 1470 ≤ p0 then (post 0) else (decide (¬ (3 : Int32) = 0) && (if (p0 - p0 / 3 * 3) = 0 then (post 1) else (post 0)))))
theorem ns_wpX_isHead (post : Int32 → Bool) (qost : Int32 → Prop) (hp : ∀ v0, post v0 = true → qost v0) (u : St2) (p0 : Int32) (h : nb_wpX_isHead post u p0 = true) : wpX_isHead qost u p0 := by
  obtain ⟨f0_count, f0_known, f0_made, f0_done, f0_loopCount, f0_tired, f0_waiting, a1, a2, a3, a4, a5, a6, a7, a8⟩ := u
  unfold nb_wpX_isHead at h
  unfold wpX_isHead
  refine cn_br h (fun h => ?_) (fun h => ?_)
  · exact hp _ h
  · refine cn_br h (fun h => ?_) (fun h => ?_)
    · exact hp _ h
    · refine cn_an h (fun h => ?_)
      refine cn_br h (fun h => ?_) (fun h => ?_)
      · exact hp _ h
      · exact hp _ h
def nb_wpX_faces (post : Int32 → Bool) (u : St2) (p0 : Int32) : Bool := match u with
  | (f0_count, f0_known, f0_made, f0_done, f0_loopCount, f0_tired, f0_waiting, a1, a2, a3, a4, a5, a6, a7, a8) => (cn_in p0 490 && (if (a4 p0.toNatClampNeg) = 0 then (cn_in (3 * p0) 1474 && (nb_wpX_isHead (fun r_4 => (if r_4 = 0 then (post 0) else (post 1))) (f0_count, f0_known, f0_made, f0_done, f0_loopCount, f0_tired, f0_waiting, a1, a2, a3, a4, a5, a6, a7, a8) (a5 (3 * p0).toNatClampNeg))) else (post 0)))
theorem ns_wpX_faces (post : Int32 → Bool) (qost : Int32 → Prop) (hp : ∀ v0, post v0 = true → qost v0) (u : St2) (p0 : Int32) (h : nb_wpX_faces post u p0 = true) : wpX_faces qost u p0 := by
  obtain ⟨f0_count, f0_known, f0_made, f0_done, f0_loopCount, f0_tired, f0_waiting, a1, a2, a3, a4, a5, a6, a7, a8⟩ := u
  unfold nb_wpX_faces at h
  unfold wpX_faces
  refine cn_vp h (fun h => ?_)
  refine cn_br h (fun h => ?_) (fun h => ?_)
  · refine cn_vp h (fun h => ?_)
    refine ns_wpX_isHead _ _ (fun r_4 h => ?_) _ _ h
    refine cn_br h (fun h => ?_) (fun h => ?_)
    · exact hp _ h
    · exact hp _ h
  · exact hp _ h
def nb_wpX_copyPort (post : Int32 → Bool) (u : St2) (p0 : Int32) : Bool := match u with
  | (f0_count, f0_known, f0_made, f0_done, f0_loopCount, f0_tired, f0_waiting, a1, a2, a3, a4, a5, a6, a7, a8) => (if p0 = (-1) then (post (-1)) else (if 30 ≤ p0 then (post ((p0 - 30) + 1470)) else (post p0)))
theorem ns_wpX_copyPort (post : Int32 → Bool) (qost : Int32 → Prop) (hp : ∀ v0, post v0 = true → qost v0) (u : St2) (p0 : Int32) (h : nb_wpX_copyPort post u p0 = true) : wpX_copyPort qost u p0 := by
  obtain ⟨f0_count, f0_known, f0_made, f0_done, f0_loopCount, f0_tired, f0_waiting, a1, a2, a3, a4, a5, a6, a7, a8⟩ := u
  unfold nb_wpX_copyPort at h
  unfold wpX_copyPort
  refine cn_br h (fun h => ?_) (fun h => ?_)
  · exact hp _ h
  · refine cn_br h (fun h => ?_) (fun h => ?_)
    · exact hp _ h
    · exact hp _ h
def nb_wX_copyNet_101 (post : St2 → Bool) (f0_count : Int32) (f0_known : Int32) (f0_made : Int32) (f0_done : Int32) (f0_loopCount : Int32) (f0_tired : Int32) : Nat → Int32 → Int32 → (Nat → Int32) → (Nat → Int32) → (Nat → Int32) → (Nat → Int32) → (Nat → Int32) → (Nat → Int32) → (Nat → Int32) → (Nat → Int32) → Bool
  | 0 => fun _ _ _ _ _ _ _ _ _ _ => false
  | n + 1 => fun x1 f0_waiting a1 a2 a3 a4 a5 a6 a7 a8 => (if f0_count ≤ x1 then (post (f0_count, f0_known, f0_made, f0_done, f0_loopCount, f0_tired, f0_waiting, a1, a2, a3, a4, a5, a6, a7, a8)) else (nb_wpX_faces (fun r_4 => (if r_4 = 0 then (cn_let (α := Int32) (x1 + 1) (fun x1_6 => (nb_wX_copyNet_101 post f0_count f0_known f0_made f0_done f0_loopCount f0_tired n x1_6 f0_waiting a1 a2 a3 a4 a5 a6 a7 a8))) else (cn_in f0_waiting 1000 && (cn_let (α := Nat → Int32) (upd a6 f0_waiting.toNatClampNeg x1) (fun a6_8 => (cn_let (α := Int32) (f0_waiting + 1) (fun f_9 => (cn_let (α := Int32) (x1 + 1) (fun x1_10 => (nb_wX_copyNet_101 post f0_count f0_known f0_made f0_done f0_loopCount f0_tired n x1_10 f_9 a1 a2 a3 a4 a5 a6_8 a7 a8)))))))))) (f0_count, f0_known, f0_made, f0_done, f0_loopCount, f0_tired, f0_waiting, a1, a2, a3, a4, a5, a6, a7, a8) x1))
theorem ns_wX_copyNet_101 (post : St2 → Bool) (qost : St2 → Prop) (hp : ∀ v0, post v0 = true → qost v0) (f0_count : Int32) (f0_known : Int32) (f0_made : Int32) (f0_done : Int32) (f0_loopCount : Int32) (f0_tired : Int32) : ∀ (n : Nat) (x1 : Int32) (f0_waiting : Int32) (a1 : (Nat → Int32)) (a2 : (Nat → Int32)) (a3 : (Nat → Int32)) (a4 : (Nat → Int32)) (a5 : (Nat → Int32)) (a6 : (Nat → Int32)) (a7 : (Nat → Int32)) (a8 : (Nat → Int32)), nb_wX_copyNet_101 post f0_count f0_known f0_made f0_done f0_loopCount f0_tired n x1 f0_waiting a1 a2 a3 a4 a5 a6 a7 a8 = true → wX_copyNet_101 qost f0_count f0_known f0_made f0_done f0_loopCount f0_tired n x1 f0_waiting a1 a2 a3 a4 a5 a6 a7 a8 := by
  intro n
  induction n with
  | zero => intro x1 f0_waiting a1 a2 a3 a4 a5 a6 a7 a8 h; exact absurd h Bool.false_ne_true
  | succ n ih =>
    intro x1 f0_waiting a1 a2 a3 a4 a5 a6 a7 a8 h
    refine cn_br h (fun h => ?_) (fun h => ?_)
    · exact hp _ h
    · refine ns_wpX_faces _ _ (fun r_4 h => ?_) _ _ h
      refine cn_br h (fun h => ?_) (fun h => ?_)
      · refine cn_nm h (fun x1_6 h => ?_)
        exact ih _ _ _ _ _ _ _ _ _ _ h
      · refine cn_vp h (fun h => ?_)
        refine cn_nm h (fun a6_8 h => ?_)
        refine cn_nm h (fun f_9 h => ?_)
        refine cn_nm h (fun x1_10 h => ?_)
        exact ih _ _ _ _ _ _ _ _ _ _ h
def nb_wX_copyNet_37 (post : St2 → Bool) (f0_count : Int32) (f0_known : Int32) (f0_made : Int32) (f0_done : Int32) (f0_loopCount : Int32) (f0_tired : Int32) (f0_waiting : Int32) : Nat → Int32 → (Nat → Int32) → (Nat → Int32) → (Nat → Int32) → (Nat → Int32) → (Nat → Int32) → (Nat → Int32) → (Nat → Int32) → (Nat → Int32) → Bool
  | 0 => fun _ _ _ _ _ _ _ _ _ => false
  | n + 1 => fun x1 a1 a2 a3 a4 a5 a6 a7 a8 => (if 34 ≤ x1 then (nb_wX_copyNet_101 post f0_count f0_known f0_count 0 0 0 12 0 0 a1 a2 a3 a4 a5 a6 a7 a8) else (nb_wpX_copyPort (fun r_11 => (cn_in x1 34 && (nb_wpX_copyPort (fun r_13 => (cn_in r_11 1474 && (cn_let (α := Nat → Int32) (upd a5 r_11.toNatClampNeg r_13) (fun a5_15 => (cn_let (α := Int32) (x1 + 1) (fun x1_16 => (nb_wX_copyNet_37 post f0_count f0_known f0_made f0_done f0_loopCount f0_tired f0_waiting n x1_16 a1 a2 a3 a4 a5_15 a6 a7 a8))))))) (f0_count, f0_known, f0_made, f0_done, f0_loopCount, f0_tired, f0_waiting, a1, a2, a3, a4, a5, a6, a7, a8) (a2 x1.toNatClampNeg)))) (f0_count, f0_known, f0_made, f0_done, f0_loopCount, f0_tired, f0_waiting, a1, a2, a3, a4, a5, a6, a7, a8) x1))
theorem ns_wX_copyNet_37 (post : St2 → Bool) (qost : St2 → Prop) (hp : ∀ v0, post v0 = true → qost v0) (f0_count : Int32) (f0_known : Int32) (f0_made : Int32) (f0_done : Int32) (f0_loopCount : Int32) (f0_tired : Int32) (f0_waiting : Int32) : ∀ (n : Nat) (x1 : Int32) (a1 : (Nat → Int32)) (a2 : (Nat → Int32)) (a3 : (Nat → Int32)) (a4 : (Nat → Int32)) (a5 : (Nat → Int32)) (a6 : (Nat → Int32)) (a7 : (Nat → Int32)) (a8 : (Nat → Int32)), nb_wX_copyNet_37 post f0_count f0_known f0_made f0_done f0_loopCount f0_tired f0_waiting n x1 a1 a2 a3 a4 a5 a6 a7 a8 = true → wX_copyNet_37 qost f0_count f0_known f0_made f0_done f0_loopCount f0_tired f0_waiting n x1 a1 a2 a3 a4 a5 a6 a7 a8 := by
  intro n
  induction n with
  | zero => intro x1 a1 a2 a3 a4 a5 a6 a7 a8 h; exact absurd h Bool.false_ne_true
  | succ n ih =>
    intro x1 a1 a2 a3 a4 a5 a6 a7 a8 h
    refine cn_br h (fun h => ?_) (fun h => ?_)
    · refine ⟨12, ?_⟩
      exact ns_wX_copyNet_101 post qost hp _ _ _ _ _ _ _ _ _ _ _ _ _ _ _ _ _ h
    · refine ns_wpX_copyPort _ _ (fun r_11 h => ?_) _ _ h
      refine cn_vp h (fun h => ?_)
      refine ns_wpX_copyPort _ _ (fun r_13 h => ?_) _ _ h
      refine cn_vp h (fun h => ?_)
      refine cn_nm h (fun a5_15 h => ?_)
      refine cn_nm h (fun x1_16 h => ?_)
      exact ih _ _ _ _ _ _ _ _ _ h
def nb_wX_copyNet_2 (post : St2 → Bool) (f0_count : Int32) (f0_known : Int32) (f0_made : Int32) (f0_done : Int32) (f0_loopCount : Int32) (f0_tired : Int32) (f0_waiting : Int32) : Nat → Int32 → (Nat → Int32) → (Nat → Int32) → (Nat → Int32) → (Nat → Int32) → (Nat → Int32) → (Nat → Int32) → (Nat → Int32) → (Nat → Int32) → Bool
  | 0 => fun _ _ _ _ _ _ _ _ _ => false
  | n + 1 => fun x1 a1 a2 a3 a4 a5 a6 a7 a8 => (if f0_count ≤ x1 then (nb_wX_copyNet_37 post f0_count f0_known f0_made f0_done f0_loopCount f0_tired f0_waiting 40 0 a1 a2 a3 a4 a5 a6 a7 a8) else (cn_in x1 10 && (cn_in x1 490 && (cn_let (α := Nat → Int32) (upd a3 x1.toNatClampNeg (a1 x1.toNatClampNeg)) (fun a3_19 => (cn_in x1 490 && (cn_let (α := Nat → Int32) (upd a4 x1.toNatClampNeg 0) (fun a4_21 => (cn_let (α := Int32) (x1 + 1) (fun x1_22 => (nb_wX_copyNet_2 post f0_count f0_known f0_made f0_done f0_loopCount f0_tired f0_waiting n x1_22 a1 a2 a3_19 a4_21 a5 a6 a7 a8)))))))))))
theorem ns_wX_copyNet_2 (post : St2 → Bool) (qost : St2 → Prop) (hp : ∀ v0, post v0 = true → qost v0) (f0_count : Int32) (f0_known : Int32) (f0_made : Int32) (f0_done : Int32) (f0_loopCount : Int32) (f0_tired : Int32) (f0_waiting : Int32) : ∀ (n : Nat) (x1 : Int32) (a1 : (Nat → Int32)) (a2 : (Nat → Int32)) (a3 : (Nat → Int32)) (a4 : (Nat → Int32)) (a5 : (Nat → Int32)) (a6 : (Nat → Int32)) (a7 : (Nat → Int32)) (a8 : (Nat → Int32)), nb_wX_copyNet_2 post f0_count f0_known f0_made f0_done f0_loopCount f0_tired f0_waiting n x1 a1 a2 a3 a4 a5 a6 a7 a8 = true → wX_copyNet_2 qost f0_count f0_known f0_made f0_done f0_loopCount f0_tired f0_waiting n x1 a1 a2 a3 a4 a5 a6 a7 a8 := by
  intro n
  induction n with
  | zero => intro x1 a1 a2 a3 a4 a5 a6 a7 a8 h; exact absurd h Bool.false_ne_true
  | succ n ih =>
    intro x1 a1 a2 a3 a4 a5 a6 a7 a8 h
    refine cn_br h (fun h => ?_) (fun h => ?_)
    · refine ⟨40, ?_⟩
      exact ns_wX_copyNet_37 post qost hp _ _ _ _ _ _ _ _ _ _ _ _ _ _ _ _ _ h
    · refine cn_vp h (fun h => ?_)
      refine cn_vp h (fun h => ?_)
      refine cn_nm h (fun a3_19 h => ?_)
      refine cn_vp h (fun h => ?_)
      refine cn_nm h (fun a4_21 h => ?_)
      refine cn_nm h (fun x1_22 h => ?_)
      exact ih _ _ _ _ _ _ _ _ _ h
def nb_wpX_copyNet (post : St2 → Bool) (u : St2) : Bool := match u with
  | (f0_count, f0_known, f0_made, f0_done, f0_loopCount, f0_tired, f0_waiting, a1, a2, a3, a4, a5, a6, a7, a8) => (nb_wX_copyNet_2 post f0_count f0_known f0_made f0_done f0_loopCount f0_tired f0_waiting 12 0 a1 a2 a3 a4 a5 a6 a7 a8)
theorem ns_wpX_copyNet (post : St2 → Bool) (qost : St2 → Prop) (hp : ∀ v0, post v0 = true → qost v0) (u : St2) (h : nb_wpX_copyNet post u = true) : wpX_copyNet qost u := by
  obtain ⟨f0_count, f0_known, f0_made, f0_done, f0_loopCount, f0_tired, f0_waiting, a1, a2, a3, a4, a5, a6, a7, a8⟩ := u
  unfold nb_wpX_copyNet at h
  unfold wpX_copyNet
  refine ⟨12, ?_⟩
  exact ns_wX_copyNet_2 post qost hp _ _ _ _ _ _ _ _ _ _ _ _ _ _ _ _ _ h
def nb_wX_newCell_31 (post : Int32 → St2 → Bool) (x2 : Int32) (f0_count : Int32) (f0_known : Int32) (f0_made : Int32) (f0_done : Int32) (f0_loopCount : Int32) (f0_tired : Int32) (f0_waiting : Int32) : Nat → Int32 → (Nat → Int32) → (Nat → Int32) → (Nat → Int32) → (Nat → Int32) → (Nat → Int32) → (Nat → Int32) → (Nat → Int32) → (Nat → Int32) → Bool
  | 0 => fun _ _ _ _ _ _ _ _ _ => false
  | n + 1 => fun x3 a1 a2 a3 a4 a5 a6 a7 a8 => (if 3 ≤ x3 then (post x2 (f0_count, f0_known, f0_made, f0_done, f0_loopCount, f0_tired, f0_waiting, a1, a2, a3, a4, a5, a6, a7, a8)) else (cn_in ((3 * x2) + x3) 1474 && (cn_let (α := Nat → Int32) (upd a5 ((3 * x2) + x3).toNatClampNeg (-1)) (fun a5_8 => (cn_let (α := Int32) (x3 + 1) (fun x3_9 => (nb_wX_newCell_31 post x2 f0_count f0_known f0_made f0_done f0_loopCount f0_tired f0_waiting n x3_9 a1 a2 a3 a4 a5_8 a6 a7 a8)))))))
theorem ns_wX_newCell_31 (post : Int32 → St2 → Bool) (qost : Int32 → St2 → Prop) (hp : ∀ v0 v1, post v0 v1 = true → qost v0 v1) (x2 : Int32) (f0_count : Int32) (f0_known : Int32) (f0_made : Int32) (f0_done : Int32) (f0_loopCount : Int32) (f0_tired : Int32) (f0_waiting : Int32) : ∀ (n : Nat) (x3 : Int32) (a1 : (Nat → Int32)) (a2 : (Nat → Int32)) (a3 : (Nat → Int32)) (a4 : (Nat → Int32)) (a5 : (Nat → Int32)) (a6 : (Nat → Int32)) (a7 : (Nat → Int32)) (a8 : (Nat → Int32)), nb_wX_newCell_31 post x2 f0_count f0_known f0_made f0_done f0_loopCount f0_tired f0_waiting n x3 a1 a2 a3 a4 a5 a6 a7 a8 = true → wX_newCell_31 qost x2 f0_count f0_known f0_made f0_done f0_loopCount f0_tired f0_waiting n x3 a1 a2 a3 a4 a5 a6 a7 a8 := by
  intro n
  induction n with
  | zero => intro x3 a1 a2 a3 a4 a5 a6 a7 a8 h; exact absurd h Bool.false_ne_true
  | succ n ih =>
    intro x3 a1 a2 a3 a4 a5 a6 a7 a8 h
    refine cn_br h (fun h => ?_) (fun h => ?_)
    · exact hp _ _ h
    · refine cn_vp h (fun h => ?_)
      refine cn_nm h (fun a5_8 h => ?_)
      refine cn_nm h (fun x3_9 h => ?_)
      exact ih _ _ _ _ _ _ _ _ _ h
def nb_wpX_newCell (post : Int32 → St2 → Bool) (u : St2) (p0 : Int32) : Bool := match u with
  | (f0_count, f0_known, f0_made, f0_done, f0_loopCount, f0_tired, f0_waiting, a1, a2, a3, a4, a5, a6, a7, a8) => (cn_let (α := Int32) (f0_made + 1) (fun f_1 => (cn_in f0_made 490 && (cn_let (α := Nat → Int32) (upd a3 f0_made.toNatClampNeg p0) (fun a3_3 => (cn_in f0_made 490 && (cn_let (α := Nat → Int32) (upd a4 f0_made.toNatClampNeg 0) (fun a4_5 => (nb_wX_newCell_31 post f0_made f0_count f0_known f_1 f0_done f0_loopCount f0_tired f0_waiting 5 0 a1 a2 a3_3 a4_5 a5 a6 a7 a8)))))))))
theorem ns_wpX_newCell (post : Int32 → St2 → Bool) (qost : Int32 → St2 → Prop) (hp : ∀ v0 v1, post v0 v1 = true → qost v0 v1) (u : St2) (p0 : Int32) (h : nb_wpX_newCell post u p0 = true) : wpX_newCell qost u p0 := by
  obtain ⟨f0_count, f0_known, f0_made, f0_done, f0_loopCount, f0_tired, f0_waiting, a1, a2, a3, a4, a5, a6, a7, a8⟩ := u
  unfold nb_wpX_newCell at h
  unfold wpX_newCell
  refine cn_nm h (fun f_1 h => ?_)
  refine cn_vp h (fun h => ?_)
  refine cn_nm h (fun a3_3 h => ?_)
  refine cn_vp h (fun h => ?_)
  refine cn_nm h (fun a4_5 h => ?_)
  refine ⟨5, ?_⟩
  exact ns_wX_newCell_31 post qost hp _ _ _ _ _ _ _ _ _ _ _ _ _ _ _ _ _ _ h
def nb_wpX_wire (post : St2 → Bool) (u : St2) (p0 : Int32) (p1 : Int32) : Bool := match u with
  | (f0_count, f0_known, f0_made, f0_done, f0_loopCount, f0_tired, f0_waiting, a1, a2, a3, a4, a5, a6, a7, a8) => (cn_in p0 1474 && (cn_let (α := Nat → Int32) (upd a5 p0.toNatClampNeg p1) (fun a5_2 => (cn_in p1 1474 && (cn_let (α := Nat → Int32) (upd a5_2 p1.toNatClampNeg p0) (fun a5_4 => (nb_wpX_isHead (fun r_5 => (if r_5 = 0 then (post (f0_count, f0_known, f0_made, f0_done, f0_loopCount, f0_tired, f0_waiting, a1, a2, a3, a4, a5_4, a6, a7, a8)) else (nb_wpX_isHead (fun r_7 => (if r_7 = 0 then (post (f0_count, f0_known, f0_made, f0_done, f0_loopCount, f0_tired, f0_waiting, a1, a2, a3, a4, a5_4, a6, a7, a8)) else (decide (¬ (3 : Int32) = 0) && (cn_in f0_waiting 1000 && (cn_let (α := Nat → Int32) (upd a6 f0_waiting.toNatClampNeg (p0 / 3)) (fun a6_11 => (cn_let (α := Int32) (f0_waiting + 1) (fun f_12 => (post (f0_count, f0_known, f0_made, f0_done, f0_loopCount, f0_tired, f_12, a1, a2, a3, a4, a5_4, a6_11, a7, a8)))))))))) (f0_count, f0_known, f0_made, f0_done, f0_loopCount, f0_tired, f0_waiting, a1, a2, a3, a4, a5_4, a6, a7, a8) p1))) (f0_count, f0_known, f0_made, f0_done, f0_loopCount, f0_tired, f0_waiting, a1, a2, a3, a4, a5_4, a6, a7, a8) p0)))))))
theorem ns_wpX_wire (post : St2 → Bool) (qost : St2 → Prop) (hp : ∀ v0, post v0 = true → qost v0) (u : St2) (p0 : Int32) (p1 : Int32) (h : nb_wpX_wire post u p0 p1 = true) : wpX_wire qost u p0 p1 := by
  obtain ⟨f0_count, f0_known, f0_made, f0_done, f0_loopCount, f0_tired, f0_waiting, a1, a2, a3, a4, a5, a6, a7, a8⟩ := u
  unfold nb_wpX_wire at h
  unfold wpX_wire
  refine cn_vp h (fun h => ?_)
  refine cn_nm h (fun a5_2 h => ?_)
  refine cn_vp h (fun h => ?_)
  refine cn_nm h (fun a5_4 h => ?_)
  refine ns_wpX_isHead _ _ (fun r_5 h => ?_) _ _ h
  refine cn_br h (fun h => ?_) (fun h => ?_)
  · exact hp _ h
  · refine ns_wpX_isHead _ _ (fun r_7 h => ?_) _ _ h
    refine cn_br h (fun h => ?_) (fun h => ?_)
    · exact hp _ h
    · refine cn_an h (fun h => ?_)
      refine cn_vp h (fun h => ?_)
      refine cn_nm h (fun a6_11 h => ?_)
      refine cn_nm h (fun f_12 h => ?_)
      exact hp _ h
def nb_wpX_take (post : St2 → Bool) (u : St2) (p0 : Int32) (p1 : Int32) : Bool := match u with
  | (f0_count, f0_known, f0_made, f0_done, f0_loopCount, f0_tired, f0_waiting, a1, a2, a3, a4, a5, a6, a7, a8) => (cn_in p1 1474 && (cn_let (α := Int32) (a5 p1.toNatClampNeg) (fun x3_2 => (if x3_2 = (-1) then (cn_in p0 1474 && (cn_let (α := Nat → Int32) (upd a5 p0.toNatClampNeg (-1)) (fun a5_37 => (post (f0_count, f0_known, f0_made, f0_done, f0_loopCount, f0_tired, f0_waiting, a1, a2, a3, a4, a5_37, a6, a7, a8))))) else (nb_wpX_wire (fun u => match u with | (f0_count_5, f0_known_6, f0_made_7, f0_done_8, f0_loopCount_9, f0_tired_10, f0_waiting_11, am251_14, am252_17, am253_20, am254_23, am255_26, am256_29, am257_32, am258_35) => (post (f0_count_5, f0_known_6, f0_made_7, f0_done_8, f0_loopCount_9, f0_tired_10, f0_waiting_11, am251_14, am252_17, am253_20, am254_23, am255_26, am256_29, am257_32, am258_35))) (f0_count, f0_known, f0_made, f0_done, f0_loopCount, f0_tired, f0_waiting, a1, a2, a3, a4, a5, a6, a7, a8) p0 x3_2)))))
theorem ns_wpX_take (post : St2 → Bool) (qost : St2 → Prop) (hp : ∀ v0, post v0 = true → qost v0) (u : St2) (p0 : Int32) (p1 : Int32) (h : nb_wpX_take post u p0 p1 = true) : wpX_take qost u p0 p1 := by
  obtain ⟨f0_count, f0_known, f0_made, f0_done, f0_loopCount, f0_tired, f0_waiting, a1, a2, a3, a4, a5, a6, a7, a8⟩ := u
  unfold nb_wpX_take at h
  unfold wpX_take
  refine cn_vp h (fun h => ?_)
  refine cn_nm h (fun x3_2 h => ?_)
  refine cn_br h (fun h => ?_) (fun h => ?_)
  · refine cn_vp h (fun h => ?_)
    refine cn_nm h (fun a5_37 h => ?_)
    exact hp _ h
  · refine ns_wpX_wire _ _ (fun u h => ?_) _ _ _ h
    obtain ⟨f0_count_5, f0_known_6, f0_made_7, f0_done_8, f0_loopCount_9, f0_tired_10, f0_waiting_11, am251_14, am252_17, am253_20, am254_23, am255_26, am256_29, am257_32, am258_35⟩ := u
    exact hp _ h
end
section
/-! Computable mirrors (Bool) of the printed predicates, and that they are sound. Printed by wip/D-11178/gen.py. -/

def nb_wpX_commute (post : St2 → Bool) (u : St2) (p0 : Int32) (p1 : Int32) : Bool := match u with
  | (f0_count, f0_known, f0_made, f0_done, f0_loopCount, f0_tired, f0_waiting, a1, a2, a3, a4, a5, a6, a7, a8) => (nb_wpX_newCell (fun r_1 u => match u with | (f0_count_2, f0_known_3, f0_made_4, f0_done_5, f0_loopCount_6, f0_tired_7, f0_waiting_8, am21_11, am22_14, am23_17, am24_20, am25_23, am26_26, am27_29, am28_32) => (nb_wpX_newCell (fun r_33 u => match u with | (f0_count_34, f0_known_35, f0_made_36, f0_done_37, f0_loopCount_38, f0_tired_39, f0_waiting_40, am81_43, am82_46, am83_49, am84_52, am85_55, am86_58, am87_61, am88_64) => (nb_wpX_newCell (fun r_65 u => match u with | (f0_count_66, f0_known_67, f0_made_68, f0_done_69, f0_loopCount_70, f0_tired_71, f0_waiting_72, am151_75, am152_78, am153_81, am154_84, am155_87, am156_90, am157_93, am158_96) => (nb_wpX_newCell (fun r_97 u => match u with | (f0_count_98, f0_known_99, f0_made_100, f0_done_101, f0_loopCount_102, f0_tired_103, f0_waiting_104, am221_107, am222_110, am223_113, am224_116, am225_119, am226_122, am227_125, am228_128) => (nb_wpX_take (fun u => match u with | (f0_count_130, f0_known_131, f0_made_132, f0_done_133, f0_loopCount_134, f0_tired_135, f0_waiting_136, am361_139, am362_142, am363_145, am364_148, am365_151, am366_154, am367_157, am368_160) => (nb_wpX_take (fun u => match u with | (f0_count_162, f0_known_163, f0_made_164, f0_done_165, f0_loopCount_166, f0_tired_167, f0_waiting_168, am491_171, am492_174, am493_177, am494_180, am495_183, am496_186, am497_189, am498_192) => (nb_wpX_take (fun u => match u with | (f0_count_194, f0_known_195, f0_made_196, f0_done_197, f0_loopCount_198, f0_tired_199, f0_waiting_200, am621_203, am622_206, am623_209, am624_212, am625_215, am626_218, am627_221, am628_224) => (nb_wpX_take (fun u => match u with | (f0_count_226, f0_known_227, f0_made_228, f0_done_229, f0_loopCount_230, f0_tired_231, f0_waiting_232, am751_235, am752_238, am753_241, am754_244, am755_247, am756_250, am757_253, am758_256) => (nb_wpX_wire (fun u => match u with | (f0_count_258, f0_known_259, f0_made_260, f0_done_261, f0_loopCount_262, f0_tired_263, f0_waiting_264, am901_267, am902_270, am903_273, am904_276, am905_279, am906_282, am907_285, am908_288) => (nb_wpX_wire (fun u => match u with | (f0_count_290, f0_known_291, f0_made_292, f0_done_293, f0_loopCount_294, f0_tired_295, f0_waiting_296, am1051_299, am1052_302, am1053_305, am1054_308, am1055_311, am1056_314, am1057_317, am1058_320) => (nb_wpX_wire (fun u => match u with | (f0_count_322, f0_known_323, f0_made_324, f0_done_325, f0_loopCount_326, f0_tired_327, f0_waiting_328, am1211_331, am1212_334, am1213_337, am1214_340, am1215_343, am1216_346, am1217_349, am1218_352) => (nb_wpX_wire (fun u => match u with | (f0_count_354, f0_known_355, f0_made_356, f0_done_357, f0_loopCount_358, f0_tired_359, f0_waiting_360, am1371_363, am1372_366, am1373_369, am1374_372, am1375_375, am1376_378, am1377_381, am1378_384) => (post (f0_count_354, f0_known_355, f0_made_356, f0_done_357, f0_loopCount_358, f0_tired_359, f0_waiting_360, am1371_363, am1372_366, am1373_369, am1374_372, am1375_375, am1376_378, am1377_381, am1378_384))) (f0_count_322, f0_known_323, f0_made_324, f0_done_325, f0_loopCount_326, f0_tired_327, f0_waiting_328, am1211_331, am1212_334, am1213_337, am1214_340, am1215_343, am1216_346, am1217_349, am1218_352) ((3 * r_33) + 2) ((3 * r_97) + 2))) (f0_count_290, f0_known_291, f0_made_292, f0_done_293, f0_loopCount_294, f0_tired_295, f0_waiting_296, am1051_299, am1052_302, am1053_305, am1054_308, am1055_311, am1056_314, am1057_317, am1058_320) ((3 * r_33) + 1) ((3 * r_65) + 2))) (f0_count_258, f0_known_259, f0_made_260, f0_done_261, f0_loopCount_262, f0_tired_263, f0_waiting_264, am901_267, am902_270, am903_273, am904_276, am905_279, am906_282, am907_285, am908_288) ((3 * r_1) + 2) ((3 * r_97) + 1))) (f0_count_226, f0_known_227, f0_made_228, f0_done_229, f0_loopCount_230, f0_tired_231, f0_waiting_232, am751_235, am752_238, am753_241, am754_244, am755_247, am756_250, am757_253, am758_256) ((3 * r_1) + 1) ((3 * r_65) + 1))) (f0_count_194, f0_known_195, f0_made_196, f0_done_197, f0_loopCount_198, f0_tired_199, f0_waiting_200, am621_203, am622_206, am623_209, am624_212, am625_215, am626_218, am627_221, am628_224) (3 * r_97) ((3 * p1) + 2))) (f0_count_162, f0_known_163, f0_made_164, f0_done_165, f0_loopCount_166, f0_tired_167, f0_waiting_168, am491_171, am492_174, am493_177, am494_180, am495_183, am496_186, am497_189, am498_192) (3 * r_65) ((3 * p1) + 1))) (f0_count_130, f0_known_131, f0_made_132, f0_done_133, f0_loopCount_134, f0_tired_135, f0_waiting_136, am361_139, am362_142, am363_145, am364_148, am365_151, am366_154, am367_157, am368_160) (3 * r_33) ((3 * p0) + 2))) (f0_count_98, f0_known_99, f0_made_100, f0_done_101, f0_loopCount_102, f0_tired_103, f0_waiting_104, am221_107, am222_110, am223_113, am224_116, am225_119, am226_122, am227_125, am228_128) (3 * r_1) ((3 * p0) + 1))) (f0_count_66, f0_known_67, f0_made_68, f0_done_69, f0_loopCount_70, f0_tired_71, f0_waiting_72, am151_75, am152_78, am153_81, am154_84, am155_87, am156_90, am157_93, am158_96) 0)) (f0_count_34, f0_known_35, f0_made_36, f0_done_37, f0_loopCount_38, f0_tired_39, f0_waiting_40, am81_43, am82_46, am83_49, am84_52, am85_55, am86_58, am87_61, am88_64) 0)) (f0_count_2, f0_known_3, f0_made_4, f0_done_5, f0_loopCount_6, f0_tired_7, f0_waiting_8, am21_11, am22_14, am23_17, am24_20, am25_23, am26_26, am27_29, am28_32) 1)) (f0_count, f0_known, f0_made, f0_done, f0_loopCount, f0_tired, f0_waiting, a1, a2, a3, a4, a5, a6, a7, a8) 1)
theorem ns_wpX_commute (post : St2 → Bool) (qost : St2 → Prop) (hp : ∀ v0, post v0 = true → qost v0) (u : St2) (p0 : Int32) (p1 : Int32) (h : nb_wpX_commute post u p0 p1 = true) : wpX_commute qost u p0 p1 := by
  obtain ⟨f0_count, f0_known, f0_made, f0_done, f0_loopCount, f0_tired, f0_waiting, a1, a2, a3, a4, a5, a6, a7, a8⟩ := u
  unfold nb_wpX_commute at h
  unfold wpX_commute
  refine ns_wpX_newCell _ _ (fun r_1 u h => ?_) _ _ h
  obtain ⟨f0_count_2, f0_known_3, f0_made_4, f0_done_5, f0_loopCount_6, f0_tired_7, f0_waiting_8, am21_11, am22_14, am23_17, am24_20, am25_23, am26_26, am27_29, am28_32⟩ := u
  refine ns_wpX_newCell _ _ (fun r_33 u h => ?_) _ _ h
  obtain ⟨f0_count_34, f0_known_35, f0_made_36, f0_done_37, f0_loopCount_38, f0_tired_39, f0_waiting_40, am81_43, am82_46, am83_49, am84_52, am85_55, am86_58, am87_61, am88_64⟩ := u
  refine ns_wpX_newCell _ _ (fun r_65 u h => ?_) _ _ h
  obtain ⟨f0_count_66, f0_known_67, f0_made_68, f0_done_69, f0_loopCount_70, f0_tired_71, f0_waiting_72, am151_75, am152_78, am153_81, am154_84, am155_87, am156_90, am157_93, am158_96⟩ := u
  refine ns_wpX_newCell _ _ (fun r_97 u h => ?_) _ _ h
  obtain ⟨f0_count_98, f0_known_99, f0_made_100, f0_done_101, f0_loopCount_102, f0_tired_103, f0_waiting_104, am221_107, am222_110, am223_113, am224_116, am225_119, am226_122, am227_125, am228_128⟩ := u
  refine ns_wpX_take _ _ (fun u h => ?_) _ _ _ h
  obtain ⟨f0_count_130, f0_known_131, f0_made_132, f0_done_133, f0_loopCount_134, f0_tired_135, f0_waiting_136, am361_139, am362_142, am363_145, am364_148, am365_151, am366_154, am367_157, am368_160⟩ := u
  refine ns_wpX_take _ _ (fun u h => ?_) _ _ _ h
  obtain ⟨f0_count_162, f0_known_163, f0_made_164, f0_done_165, f0_loopCount_166, f0_tired_167, f0_waiting_168, am491_171, am492_174, am493_177, am494_180, am495_183, am496_186, am497_189, am498_192⟩ := u
  refine ns_wpX_take _ _ (fun u h => ?_) _ _ _ h
  obtain ⟨f0_count_194, f0_known_195, f0_made_196, f0_done_197, f0_loopCount_198, f0_tired_199, f0_waiting_200, am621_203, am622_206, am623_209, am624_212, am625_215, am626_218, am627_221, am628_224⟩ := u
  refine ns_wpX_take _ _ (fun u h => ?_) _ _ _ h
  obtain ⟨f0_count_226, f0_known_227, f0_made_228, f0_done_229, f0_loopCount_230, f0_tired_231, f0_waiting_232, am751_235, am752_238, am753_241, am754_244, am755_247, am756_250, am757_253, am758_256⟩ := u
  refine ns_wpX_wire _ _ (fun u h => ?_) _ _ _ h
  obtain ⟨f0_count_258, f0_known_259, f0_made_260, f0_done_261, f0_loopCount_262, f0_tired_263, f0_waiting_264, am901_267, am902_270, am903_273, am904_276, am905_279, am906_282, am907_285, am908_288⟩ := u
  refine ns_wpX_wire _ _ (fun u h => ?_) _ _ _ h
  obtain ⟨f0_count_290, f0_known_291, f0_made_292, f0_done_293, f0_loopCount_294, f0_tired_295, f0_waiting_296, am1051_299, am1052_302, am1053_305, am1054_308, am1055_311, am1056_314, am1057_317, am1058_320⟩ := u
  refine ns_wpX_wire _ _ (fun u h => ?_) _ _ _ h
  obtain ⟨f0_count_322, f0_known_323, f0_made_324, f0_done_325, f0_loopCount_326, f0_tired_327, f0_waiting_328, am1211_331, am1212_334, am1213_337, am1214_340, am1215_343, am1216_346, am1217_349, am1218_352⟩ := u
  refine ns_wpX_wire _ _ (fun u h => ?_) _ _ _ h
  obtain ⟨f0_count_354, f0_known_355, f0_made_356, f0_done_357, f0_loopCount_358, f0_tired_359, f0_waiting_360, am1371_363, am1372_366, am1373_369, am1374_372, am1375_375, am1376_378, am1377_381, am1378_384⟩ := u
  exact hp _ h
def nb_wpX_erase (post : St2 → Bool) (u : St2) (p0 : Int32) : Bool := match u with
  | (f0_count, f0_known, f0_made, f0_done, f0_loopCount, f0_tired, f0_waiting, a1, a2, a3, a4, a5, a6, a7, a8) => (nb_wpX_newCell (fun r_1 u => match u with | (f0_count_2, f0_known_3, f0_made_4, f0_done_5, f0_loopCount_6, f0_tired_7, f0_waiting_8, am21_11, am22_14, am23_17, am24_20, am25_23, am26_26, am27_29, am28_32) => (nb_wpX_take (fun u => match u with | (f0_count_34, f0_known_35, f0_made_36, f0_done_37, f0_loopCount_38, f0_tired_39, f0_waiting_40, am151_43, am152_46, am153_49, am154_52, am155_55, am156_58, am157_61, am158_64) => (nb_wpX_newCell (fun r_65 u => match u with | (f0_count_66, f0_known_67, f0_made_68, f0_done_69, f0_loopCount_70, f0_tired_71, f0_waiting_72, am201_75, am202_78, am203_81, am204_84, am205_87, am206_90, am207_93, am208_96) => (nb_wpX_take (fun u => match u with | (f0_count_98, f0_known_99, f0_made_100, f0_done_101, f0_loopCount_102, f0_tired_103, f0_waiting_104, am331_107, am332_110, am333_113, am334_116, am335_119, am336_122, am337_125, am338_128) => (post (f0_count_98, f0_known_99, f0_made_100, f0_done_101, f0_loopCount_102, f0_tired_103, f0_waiting_104, am331_107, am332_110, am333_113, am334_116, am335_119, am336_122, am337_125, am338_128))) (f0_count_66, f0_known_67, f0_made_68, f0_done_69, f0_loopCount_70, f0_tired_71, f0_waiting_72, am201_75, am202_78, am203_81, am204_84, am205_87, am206_90, am207_93, am208_96) (3 * r_65) ((3 * p0) + 2))) (f0_count_34, f0_known_35, f0_made_36, f0_done_37, f0_loopCount_38, f0_tired_39, f0_waiting_40, am151_43, am152_46, am153_49, am154_52, am155_55, am156_58, am157_61, am158_64) 2)) (f0_count_2, f0_known_3, f0_made_4, f0_done_5, f0_loopCount_6, f0_tired_7, f0_waiting_8, am21_11, am22_14, am23_17, am24_20, am25_23, am26_26, am27_29, am28_32) (3 * r_1) ((3 * p0) + 1))) (f0_count, f0_known, f0_made, f0_done, f0_loopCount, f0_tired, f0_waiting, a1, a2, a3, a4, a5, a6, a7, a8) 2)
theorem ns_wpX_erase (post : St2 → Bool) (qost : St2 → Prop) (hp : ∀ v0, post v0 = true → qost v0) (u : St2) (p0 : Int32) (h : nb_wpX_erase post u p0 = true) : wpX_erase qost u p0 := by
  obtain ⟨f0_count, f0_known, f0_made, f0_done, f0_loopCount, f0_tired, f0_waiting, a1, a2, a3, a4, a5, a6, a7, a8⟩ := u
  unfold nb_wpX_erase at h
  unfold wpX_erase
  refine ns_wpX_newCell _ _ (fun r_1 u h => ?_) _ _ h
  obtain ⟨f0_count_2, f0_known_3, f0_made_4, f0_done_5, f0_loopCount_6, f0_tired_7, f0_waiting_8, am21_11, am22_14, am23_17, am24_20, am25_23, am26_26, am27_29, am28_32⟩ := u
  refine ns_wpX_take _ _ (fun u h => ?_) _ _ _ h
  obtain ⟨f0_count_34, f0_known_35, f0_made_36, f0_done_37, f0_loopCount_38, f0_tired_39, f0_waiting_40, am151_43, am152_46, am153_49, am154_52, am155_55, am156_58, am157_61, am158_64⟩ := u
  refine ns_wpX_newCell _ _ (fun r_65 u h => ?_) _ _ h
  obtain ⟨f0_count_66, f0_known_67, f0_made_68, f0_done_69, f0_loopCount_70, f0_tired_71, f0_waiting_72, am201_75, am202_78, am203_81, am204_84, am205_87, am206_90, am207_93, am208_96⟩ := u
  refine ns_wpX_take _ _ (fun u h => ?_) _ _ _ h
  obtain ⟨f0_count_98, f0_known_99, f0_made_100, f0_done_101, f0_loopCount_102, f0_tired_103, f0_waiting_104, am331_107, am332_110, am333_113, am334_116, am335_119, am336_122, am337_125, am338_128⟩ := u
  exact hp _ h
def nb_wX_fuse_76 (post : St2 → Bool) (x3 : Int32) (x4 : Int32) (f0_count : Int32) (f0_known : Int32) (f0_made : Int32) (f0_done : Int32) (f0_loopCount : Int32) (f0_tired : Int32) (f0_waiting : Int32) (a1 : Nat → Int32) (a2 : Nat → Int32) (a3 : Nat → Int32) (a4 : Nat → Int32) (a5 : Nat → Int32) (a6 : Nat → Int32) (a7 : Nat → Int32) (a8 : Nat → Int32) : Bool := (if x3 = (-1) then (post (f0_count, f0_known, f0_made, f0_done, f0_loopCount, f0_tired, f0_waiting, a1, a2, a3, a4, a5, a6, a7, a8)) else (nb_wpX_wire (fun u => match u with | (f0_count_10, f0_known_11, f0_made_12, f0_done_13, f0_loopCount_14, f0_tired_15, f0_waiting_16, am851_19, am852_22, am853_25, am854_28, am855_31, am856_34, am857_37, am858_40) => (post (f0_count_10, f0_known_11, f0_made_12, f0_done_13, f0_loopCount_14, f0_tired_15, f0_waiting_16, am851_19, am852_22, am853_25, am854_28, am855_31, am856_34, am857_37, am858_40))) (f0_count, f0_known, f0_made, f0_done, f0_loopCount, f0_tired, f0_waiting, a1, a2, a3, a4, a5, a6, a7, a8) x3 x4))
theorem ns_wX_fuse_76 (post : St2 → Bool) (qost : St2 → Prop) (hp : ∀ v0, post v0 = true → qost v0) (x3 : Int32) (x4 : Int32) (f0_count : Int32) (f0_known : Int32) (f0_made : Int32) (f0_done : Int32) (f0_loopCount : Int32) (f0_tired : Int32) (f0_waiting : Int32) (a1 : Nat → Int32) (a2 : Nat → Int32) (a3 : Nat → Int32) (a4 : Nat → Int32) (a5 : Nat → Int32) (a6 : Nat → Int32) (a7 : Nat → Int32) (a8 : Nat → Int32) (h : nb_wX_fuse_76 post x3 x4 f0_count f0_known f0_made f0_done f0_loopCount f0_tired f0_waiting a1 a2 a3 a4 a5 a6 a7 a8 = true) : wX_fuse_76 qost x3 x4 f0_count f0_known f0_made f0_done f0_loopCount f0_tired f0_waiting a1 a2 a3 a4 a5 a6 a7 a8 := by
  unfold nb_wX_fuse_76 at h
  unfold wX_fuse_76
  refine cn_br h (fun h => ?_) (fun h => ?_)
  · exact hp _ h
  · refine ns_wpX_wire _ _ (fun u h => ?_) _ _ _ h
    obtain ⟨f0_count_10, f0_known_11, f0_made_12, f0_done_13, f0_loopCount_14, f0_tired_15, f0_waiting_16, am851_19, am852_22, am853_25, am854_28, am855_31, am856_34, am857_37, am858_40⟩ := u
    exact hp _ h
def nb_wX_fuse_55 (post : St2 → Bool) (x3 : Int32) (x4 : Int32) (f0_count : Int32) (f0_known : Int32) (f0_made : Int32) (f0_done : Int32) (f0_loopCount : Int32) (f0_tired : Int32) (f0_waiting : Int32) (a1 : Nat → Int32) (a2 : Nat → Int32) (a3 : Nat → Int32) (a4 : Nat → Int32) (a5 : Nat → Int32) (a6 : Nat → Int32) (a7 : Nat → Int32) (a8 : Nat → Int32) : Bool := (if x4 = (-1) then (if x3 = (-1) then (nb_wX_fuse_76 post x3 x4 f0_count f0_known f0_made f0_done f0_loopCount f0_tired f0_waiting a1 a2 a3 a4 a5 a6 a7 a8) else (cn_in x3 1474 && (cn_let (α := Nat → Int32) (upd a5 x3.toNatClampNeg (-1)) (fun a5_43 => (post (f0_count, f0_known, f0_made, f0_done, f0_loopCount, f0_tired, f0_waiting, a1, a2, a3, a4, a5_43, a6, a7, a8)))))) else (nb_wX_fuse_76 post x3 x4 f0_count f0_known f0_made f0_done f0_loopCount f0_tired f0_waiting a1 a2 a3 a4 a5 a6 a7 a8))
theorem ns_wX_fuse_55 (post : St2 → Bool) (qost : St2 → Prop) (hp : ∀ v0, post v0 = true → qost v0) (x3 : Int32) (x4 : Int32) (f0_count : Int32) (f0_known : Int32) (f0_made : Int32) (f0_done : Int32) (f0_loopCount : Int32) (f0_tired : Int32) (f0_waiting : Int32) (a1 : Nat → Int32) (a2 : Nat → Int32) (a3 : Nat → Int32) (a4 : Nat → Int32) (a5 : Nat → Int32) (a6 : Nat → Int32) (a7 : Nat → Int32) (a8 : Nat → Int32) (h : nb_wX_fuse_55 post x3 x4 f0_count f0_known f0_made f0_done f0_loopCount f0_tired f0_waiting a1 a2 a3 a4 a5 a6 a7 a8 = true) : wX_fuse_55 qost x3 x4 f0_count f0_known f0_made f0_done f0_loopCount f0_tired f0_waiting a1 a2 a3 a4 a5 a6 a7 a8 := by
  unfold nb_wX_fuse_55 at h
  unfold wX_fuse_55
  refine cn_br h (fun h => ?_) (fun h => ?_)
  · refine cn_br h (fun h => ?_) (fun h => ?_)
    · exact ns_wX_fuse_76 post qost hp _ _ _ _ _ _ _ _ _ _ _ _ _ _ _ _ _ h
    · refine cn_vp h (fun h => ?_)
      refine cn_nm h (fun a5_43 h => ?_)
      exact hp _ h
  · exact ns_wX_fuse_76 post qost hp _ _ _ _ _ _ _ _ _ _ _ _ _ _ _ _ _ h
def nb_wpX_fuse (post : St2 → Bool) (u : St2) (p0 : Int32) (p1 : Int32) : Bool := match u with
  | (f0_count, f0_known, f0_made, f0_done, f0_loopCount, f0_tired, f0_waiting, a1, a2, a3, a4, a5, a6, a7, a8) => (cn_in p0 1474 && (cn_let (α := Int32) (a5 p0.toNatClampNeg) (fun x3_2 => (cn_in p1 1474 && (cn_let (α := Int32) (a5 p1.toNatClampNeg) (fun x4_4 => (if x3_2 = p1 then (cn_let (α := Int32) (f0_loopCount + 1) (fun f_47 => (post (f0_count, f0_known, f0_made, f0_done, f_47, f0_tired, f0_waiting, a1, a2, a3, a4, a5, a6, a7, a8)))) else (if x3_2 = (-1) then (if x4_4 = (-1) then (nb_wX_fuse_55 post x3_2 x4_4 f0_count f0_known f0_made f0_done f0_loopCount f0_tired f0_waiting a1 a2 a3 a4 a5 a6 a7 a8) else (cn_in x4_4 1474 && (cn_let (α := Nat → Int32) (upd a5 x4_4.toNatClampNeg (-1)) (fun a5_46 => (post (f0_count, f0_known, f0_made, f0_done, f0_loopCount, f0_tired, f0_waiting, a1, a2, a3, a4, a5_46, a6, a7, a8)))))) else (nb_wX_fuse_55 post x3_2 x4_4 f0_count f0_known f0_made f0_done f0_loopCount f0_tired f0_waiting a1 a2 a3 a4 a5 a6 a7 a8)))))))))
theorem ns_wpX_fuse (post : St2 → Bool) (qost : St2 → Prop) (hp : ∀ v0, post v0 = true → qost v0) (u : St2) (p0 : Int32) (p1 : Int32) (h : nb_wpX_fuse post u p0 p1 = true) : wpX_fuse qost u p0 p1 := by
  obtain ⟨f0_count, f0_known, f0_made, f0_done, f0_loopCount, f0_tired, f0_waiting, a1, a2, a3, a4, a5, a6, a7, a8⟩ := u
  unfold nb_wpX_fuse at h
  unfold wpX_fuse
  refine cn_vp h (fun h => ?_)
  refine cn_nm h (fun x3_2 h => ?_)
  refine cn_vp h (fun h => ?_)
  refine cn_nm h (fun x4_4 h => ?_)
  refine cn_br h (fun h => ?_) (fun h => ?_)
  · refine cn_nm h (fun f_47 h => ?_)
    exact hp _ h
  · refine cn_br h (fun h => ?_) (fun h => ?_)
    · refine cn_br h (fun h => ?_) (fun h => ?_)
      · exact ns_wX_fuse_55 post qost hp _ _ _ _ _ _ _ _ _ _ _ _ _ _ _ _ _ h
      · refine cn_vp h (fun h => ?_)
        refine cn_nm h (fun a5_46 h => ?_)
        exact hp _ h
    · exact ns_wX_fuse_55 post qost hp _ _ _ _ _ _ _ _ _ _ _ _ _ _ _ _ _ h
def nb_wpX_annihilate (post : St2 → Bool) (u : St2) (p0 : Int32) (p1 : Int32) : Bool := match u with
  | (f0_count, f0_known, f0_made, f0_done, f0_loopCount, f0_tired, f0_waiting, a1, a2, a3, a4, a5, a6, a7, a8) => (nb_wpX_fuse (fun u => match u with | (f0_count_2, f0_known_3, f0_made_4, f0_done_5, f0_loopCount_6, f0_tired_7, f0_waiting_8, am111_11, am112_14, am113_17, am114_20, am115_23, am116_26, am117_29, am118_32) => (nb_wpX_fuse (fun u => match u with | (f0_count_34, f0_known_35, f0_made_36, f0_done_37, f0_loopCount_38, f0_tired_39, f0_waiting_40, am251_43, am252_46, am253_49, am254_52, am255_55, am256_58, am257_61, am258_64) => (post (f0_count_34, f0_known_35, f0_made_36, f0_done_37, f0_loopCount_38, f0_tired_39, f0_waiting_40, am251_43, am252_46, am253_49, am254_52, am255_55, am256_58, am257_61, am258_64))) (f0_count_2, f0_known_3, f0_made_4, f0_done_5, f0_loopCount_6, f0_tired_7, f0_waiting_8, am111_11, am112_14, am113_17, am114_20, am115_23, am116_26, am117_29, am118_32) ((3 * p0) + 2) ((3 * p1) + 2))) (f0_count, f0_known, f0_made, f0_done, f0_loopCount, f0_tired, f0_waiting, a1, a2, a3, a4, a5, a6, a7, a8) ((3 * p0) + 1) ((3 * p1) + 1))
theorem ns_wpX_annihilate (post : St2 → Bool) (qost : St2 → Prop) (hp : ∀ v0, post v0 = true → qost v0) (u : St2) (p0 : Int32) (p1 : Int32) (h : nb_wpX_annihilate post u p0 p1 = true) : wpX_annihilate qost u p0 p1 := by
  obtain ⟨f0_count, f0_known, f0_made, f0_done, f0_loopCount, f0_tired, f0_waiting, a1, a2, a3, a4, a5, a6, a7, a8⟩ := u
  unfold nb_wpX_annihilate at h
  unfold wpX_annihilate
  refine ns_wpX_fuse _ _ (fun u h => ?_) _ _ _ h
  obtain ⟨f0_count_2, f0_known_3, f0_made_4, f0_done_5, f0_loopCount_6, f0_tired_7, f0_waiting_8, am111_11, am112_14, am113_17, am114_20, am115_23, am116_26, am117_29, am118_32⟩ := u
  refine ns_wpX_fuse _ _ (fun u h => ?_) _ _ _ h
  obtain ⟨f0_count_34, f0_known_35, f0_made_36, f0_done_37, f0_loopCount_38, f0_tired_39, f0_waiting_40, am251_43, am252_46, am253_49, am254_52, am255_55, am256_58, am257_61, am258_64⟩ := u
  exact hp _ h
def nb_wX_step_35 (post : St2 → Bool) (x1 : Int32) (x2 : Int32) (f0_count : Int32) (f0_known : Int32) (f0_made : Int32) (f0_done : Int32) (f0_loopCount : Int32) (f0_tired : Int32) (f0_waiting : Int32) (a1 : Nat → Int32) (a2 : Nat → Int32) (a3 : Nat → Int32) (a4 : Nat → Int32) (a5 : Nat → Int32) (a6 : Nat → Int32) (a7 : Nat → Int32) (a8 : Nat → Int32) : Bool := (cn_in x1 490 && (cn_in x2 490 && (if (a3 x1.toNatClampNeg) = (a3 x2.toNatClampNeg) then (nb_wpX_annihilate (fun u => match u with | (f0_count_145, f0_known_146, f0_made_147, f0_done_148, f0_loopCount_149, f0_tired_150, f0_waiting_151, am531_154, am532_157, am533_160, am534_163, am535_166, am536_169, am537_172, am538_175) => (post (f0_count_145, f0_known_146, f0_made_147, f0_done_148, f0_loopCount_149, f0_tired_150, f0_waiting_151, am531_154, am532_157, am533_160, am534_163, am535_166, am536_169, am537_172, am538_175))) (f0_count, f0_known, f0_made, f0_done, f0_loopCount, f0_tired, f0_waiting, a1, a2, a3, a4, a5, a6, a7, a8) x1 x2) else (cn_in x1 490 && (if (a3 x1.toNatClampNeg) = 2 then (nb_wpX_erase (fun u => match u with | (f0_count_113, f0_known_114, f0_made_115, f0_done_116, f0_loopCount_117, f0_tired_118, f0_waiting_119, am711_122, am712_125, am713_128, am714_131, am715_134, am716_137, am717_140, am718_143) => (post (f0_count_113, f0_known_114, f0_made_115, f0_done_116, f0_loopCount_117, f0_tired_118, f0_waiting_119, am711_122, am712_125, am713_128, am714_131, am715_134, am716_137, am717_140, am718_143))) (f0_count, f0_known, f0_made, f0_done, f0_loopCount, f0_tired, f0_waiting, a1, a2, a3, a4, a5, a6, a7, a8) x2) else (cn_in x2 490 && (if (a3 x2.toNatClampNeg) = 2 then (nb_wpX_erase (fun u => match u with | (f0_count_81, f0_known_82, f0_made_83, f0_done_84, f0_loopCount_85, f0_tired_86, f0_waiting_87, am891_90, am892_93, am893_96, am894_99, am895_102, am896_105, am897_108, am898_111) => (post (f0_count_81, f0_known_82, f0_made_83, f0_done_84, f0_loopCount_85, f0_tired_86, f0_waiting_87, am891_90, am892_93, am893_96, am894_99, am895_102, am896_105, am897_108, am898_111))) (f0_count, f0_known, f0_made, f0_done, f0_loopCount, f0_tired, f0_waiting, a1, a2, a3, a4, a5, a6, a7, a8) x1) else (cn_in x1 490 && (if (a3 x1.toNatClampNeg) = 0 then (nb_wpX_commute (fun u => match u with | (f0_count_49, f0_known_50, f0_made_51, f0_done_52, f0_loopCount_53, f0_tired_54, f0_waiting_55, am1071_58, am1072_61, am1073_64, am1074_67, am1075_70, am1076_73, am1077_76, am1078_79) => (post (f0_count_49, f0_known_50, f0_made_51, f0_done_52, f0_loopCount_53, f0_tired_54, f0_waiting_55, am1071_58, am1072_61, am1073_64, am1074_67, am1075_70, am1076_73, am1077_76, am1078_79))) (f0_count, f0_known, f0_made, f0_done, f0_loopCount, f0_tired, f0_waiting, a1, a2, a3, a4, a5, a6, a7, a8) x1 x2) else (nb_wpX_commute (fun u => match u with | (f0_count_17, f0_known_18, f0_made_19, f0_done_20, f0_loopCount_21, f0_tired_22, f0_waiting_23, am1161_26, am1162_29, am1163_32, am1164_35, am1165_38, am1166_41, am1167_44, am1168_47) => (post (f0_count_17, f0_known_18, f0_made_19, f0_done_20, f0_loopCount_21, f0_tired_22, f0_waiting_23, am1161_26, am1162_29, am1163_32, am1164_35, am1165_38, am1166_41, am1167_44, am1168_47))) (f0_count, f0_known, f0_made, f0_done, f0_loopCount, f0_tired, f0_waiting, a1, a2, a3, a4, a5, a6, a7, a8) x2 x1))))))))))
theorem ns_wX_step_35 (post : St2 → Bool) (qost : St2 → Prop) (hp : ∀ v0, post v0 = true → qost v0) (x1 : Int32) (x2 : Int32) (f0_count : Int32) (f0_known : Int32) (f0_made : Int32) (f0_done : Int32) (f0_loopCount : Int32) (f0_tired : Int32) (f0_waiting : Int32) (a1 : Nat → Int32) (a2 : Nat → Int32) (a3 : Nat → Int32) (a4 : Nat → Int32) (a5 : Nat → Int32) (a6 : Nat → Int32) (a7 : Nat → Int32) (a8 : Nat → Int32) (h : nb_wX_step_35 post x1 x2 f0_count f0_known f0_made f0_done f0_loopCount f0_tired f0_waiting a1 a2 a3 a4 a5 a6 a7 a8 = true) : wX_step_35 qost x1 x2 f0_count f0_known f0_made f0_done f0_loopCount f0_tired f0_waiting a1 a2 a3 a4 a5 a6 a7 a8 := by
  unfold nb_wX_step_35 at h
  unfold wX_step_35
  refine cn_vp h (fun h => ?_)
  refine cn_vp h (fun h => ?_)
  refine cn_br h (fun h => ?_) (fun h => ?_)
  · refine ns_wpX_annihilate _ _ (fun u h => ?_) _ _ _ h
    obtain ⟨f0_count_145, f0_known_146, f0_made_147, f0_done_148, f0_loopCount_149, f0_tired_150, f0_waiting_151, am531_154, am532_157, am533_160, am534_163, am535_166, am536_169, am537_172, am538_175⟩ := u
    exact hp _ h
  · refine cn_vp h (fun h => ?_)
    refine cn_br h (fun h => ?_) (fun h => ?_)
    · refine ns_wpX_erase _ _ (fun u h => ?_) _ _ h
      obtain ⟨f0_count_113, f0_known_114, f0_made_115, f0_done_116, f0_loopCount_117, f0_tired_118, f0_waiting_119, am711_122, am712_125, am713_128, am714_131, am715_134, am716_137, am717_140, am718_143⟩ := u
      exact hp _ h
    · refine cn_vp h (fun h => ?_)
      refine cn_br h (fun h => ?_) (fun h => ?_)
      · refine ns_wpX_erase _ _ (fun u h => ?_) _ _ h
        obtain ⟨f0_count_81, f0_known_82, f0_made_83, f0_done_84, f0_loopCount_85, f0_tired_86, f0_waiting_87, am891_90, am892_93, am893_96, am894_99, am895_102, am896_105, am897_108, am898_111⟩ := u
        exact hp _ h
      · refine cn_vp h (fun h => ?_)
        refine cn_br h (fun h => ?_) (fun h => ?_)
        · refine ns_wpX_commute _ _ (fun u h => ?_) _ _ _ h
          obtain ⟨f0_count_49, f0_known_50, f0_made_51, f0_done_52, f0_loopCount_53, f0_tired_54, f0_waiting_55, am1071_58, am1072_61, am1073_64, am1074_67, am1075_70, am1076_73, am1077_76, am1078_79⟩ := u
          exact hp _ h
        · refine ns_wpX_commute _ _ (fun u h => ?_) _ _ _ h
          obtain ⟨f0_count_17, f0_known_18, f0_made_19, f0_done_20, f0_loopCount_21, f0_tired_22, f0_waiting_23, am1161_26, am1162_29, am1163_32, am1164_35, am1165_38, am1166_41, am1167_44, am1168_47⟩ := u
          exact hp _ h
def nb_wpX_step (post : St2 → Bool) (u : St2) (p0 : Int32) (p1 : Int32) : Bool := match u with
  | (f0_count, f0_known, f0_made, f0_done, f0_loopCount, f0_tired, f0_waiting, a1, a2, a3, a4, a5, a6, a7, a8) => (cn_in p0 490 && (cn_let (α := Nat → Int32) (upd a4 p0.toNatClampNeg 1) (fun a4_2 => (cn_in p1 490 && (cn_let (α := Nat → Int32) (upd a4_2 p1.toNatClampNeg 1) (fun a4_4 => (cn_in p0 490 && (if (a3 p0.toNatClampNeg) = 2 then (cn_in p1 490 && (if (a3 p1.toNatClampNeg) = 2 then (post (f0_count, f0_known, f0_made, f0_done, f0_loopCount, f0_tired, f0_waiting, a1, a2, a3, a4_4, a5, a6, a7, a8)) else (nb_wX_step_35 post p0 p1 f0_count f0_known f0_made f0_done f0_loopCount f0_tired f0_waiting a1 a2 a3 a4_4 a5 a6 a7 a8))) else (nb_wX_step_35 post p0 p1 f0_count f0_known f0_made f0_done f0_loopCount f0_tired f0_waiting a1 a2 a3 a4_4 a5 a6 a7 a8)))))))))
theorem ns_wpX_step (post : St2 → Bool) (qost : St2 → Prop) (hp : ∀ v0, post v0 = true → qost v0) (u : St2) (p0 : Int32) (p1 : Int32) (h : nb_wpX_step post u p0 p1 = true) : wpX_step qost u p0 p1 := by
  obtain ⟨f0_count, f0_known, f0_made, f0_done, f0_loopCount, f0_tired, f0_waiting, a1, a2, a3, a4, a5, a6, a7, a8⟩ := u
  unfold nb_wpX_step at h
  unfold wpX_step
  refine cn_vp h (fun h => ?_)
  refine cn_nm h (fun a4_2 h => ?_)
  refine cn_vp h (fun h => ?_)
  refine cn_nm h (fun a4_4 h => ?_)
  refine cn_vp h (fun h => ?_)
  refine cn_br h (fun h => ?_) (fun h => ?_)
  · refine cn_vp h (fun h => ?_)
    refine cn_br h (fun h => ?_) (fun h => ?_)
    · exact hp _ h
    · exact ns_wX_step_35 post qost hp _ _ _ _ _ _ _ _ _ _ _ _ _ _ _ _ _ h
  · exact ns_wX_step_35 post qost hp _ _ _ _ _ _ _ _ _ _ _ _ _ _ _ _ _ h
def nb_wX_run_14 (post : St2 → Bool)  : Nat → Int32 → Int32 → Int32 → Int32 → Int32 → Int32 → Int32 → Int32 → (Nat → Int32) → (Nat → Int32) → (Nat → Int32) → (Nat → Int32) → (Nat → Int32) → (Nat → Int32) → (Nat → Int32) → (Nat → Int32) → Bool
  | 0 => fun _ _ _ _ _ _ _ _ _ _ _ _ _ _ _ _ => false
  | n + 1 => fun x1 f0_count f0_known f0_made f0_done f0_loopCount f0_tired f0_waiting am91 am92 am93 am94 am95 am96 am97 am98 => (if 1000 ≤ x1 then (post (f0_count, 1, f0_made, f0_done, f0_loopCount, f0_tired, f0_waiting, am91, am92, am93, am94, am95, am96, am97, am98)) else (if f0_waiting ≤ 0 then (post (f0_count, 1, f0_made, f0_done, f0_loopCount, f0_tired, f0_waiting, am91, am92, am93, am94, am95, am96, am97, am98)) else (cn_let (α := Int32) (f0_waiting - 1) (fun f_36 => (cn_in f_36 1000 && (cn_let (α := Int32) (am96 f_36.toNatClampNeg) (fun x2_38 => (nb_wpX_faces (fun r_39 => (if r_39 = 0 then (cn_let (α := Int32) (x1 + 1) (fun x1_41 => (nb_wX_run_14 post n x1_41 f0_count f0_known f0_made f0_done f0_loopCount f0_tired f_36 am91 am92 am93 am94 am95 am96 am97 am98))) else (if f0_done = 120 then (cn_let (α := Int32) (x1 + 1) (fun x1_79 => (nb_wX_run_14 post n x1_79 f0_count f0_known f0_made f0_done f0_loopCount 1 0 am91 am92 am93 am94 am95 am96 am97 am98))) else (cn_let (α := Int32) (f0_done + 1) (fun f_43 => (cn_in (3 * x2_38) 1474 && (decide (¬ (3 : Int32) = 0) && (nb_wpX_step (fun u => match u with | (f0_count_47, f0_known_48, f0_made_49, f0_done_50, f0_loopCount_51, f0_tired_52, f0_waiting_53, am1001_56, am1002_59, am1003_62, am1004_65, am1005_68, am1006_71, am1007_74, am1008_77) => (cn_let (α := Int32) (x1 + 1) (fun x1_78 => (nb_wX_run_14 post n x1_78 f0_count_47 f0_known_48 f0_made_49 f0_done_50 f0_loopCount_51 f0_tired_52 f0_waiting_53 am1001_56 am1002_59 am1003_62 am1004_65 am1005_68 am1006_71 am1007_74 am1008_77)))) (f0_count, f0_known, f0_made, f_43, f0_loopCount, f0_tired, f_36, am91, am92, am93, am94, am95, am96, am97, am98) x2_38 ((am95 (3 * x2_38).toNatClampNeg) / 3))))))))) (f0_count, f0_known, f0_made, f0_done, f0_loopCount, f0_tired, f_36, am91, am92, am93, am94, am95, am96, am97, am98) x2_38))))))))
theorem ns_wX_run_14 (post : St2 → Bool) (qost : St2 → Prop) (hp : ∀ v0, post v0 = true → qost v0)  : ∀ (n : Nat) (x1 : Int32) (f0_count : Int32) (f0_known : Int32) (f0_made : Int32) (f0_done : Int32) (f0_loopCount : Int32) (f0_tired : Int32) (f0_waiting : Int32) (am91 : (Nat → Int32)) (am92 : (Nat → Int32)) (am93 : (Nat → Int32)) (am94 : (Nat → Int32)) (am95 : (Nat → Int32)) (am96 : (Nat → Int32)) (am97 : (Nat → Int32)) (am98 : (Nat → Int32)), nb_wX_run_14 post  n x1 f0_count f0_known f0_made f0_done f0_loopCount f0_tired f0_waiting am91 am92 am93 am94 am95 am96 am97 am98 = true → wX_run_14 qost  n x1 f0_count f0_known f0_made f0_done f0_loopCount f0_tired f0_waiting am91 am92 am93 am94 am95 am96 am97 am98 := by
  intro n
  induction n with
  | zero => intro x1 f0_count f0_known f0_made f0_done f0_loopCount f0_tired f0_waiting am91 am92 am93 am94 am95 am96 am97 am98 h; exact absurd h Bool.false_ne_true
  | succ n ih =>
    intro x1 f0_count f0_known f0_made f0_done f0_loopCount f0_tired f0_waiting am91 am92 am93 am94 am95 am96 am97 am98 h
    refine cn_br h (fun h => ?_) (fun h => ?_)
    · exact hp _ h
    · refine cn_br h (fun h => ?_) (fun h => ?_)
      · exact hp _ h
      · refine cn_nm h (fun f_36 h => ?_)
        refine cn_vp h (fun h => ?_)
        refine cn_nm h (fun x2_38 h => ?_)
        refine ns_wpX_faces _ _ (fun r_39 h => ?_) _ _ h
        refine cn_br h (fun h => ?_) (fun h => ?_)
        · refine cn_nm h (fun x1_41 h => ?_)
          exact ih _ _ _ _ _ _ _ _ _ _ _ _ _ _ _ _ h
        · refine cn_br h (fun h => ?_) (fun h => ?_)
          · refine cn_nm h (fun x1_79 h => ?_)
            exact ih _ _ _ _ _ _ _ _ _ _ _ _ _ _ _ _ h
          · refine cn_nm h (fun f_43 h => ?_)
            refine cn_vp h (fun h => ?_)
            refine cn_an h (fun h => ?_)
            refine ns_wpX_step _ _ (fun u h => ?_) _ _ _ h
            obtain ⟨f0_count_47, f0_known_48, f0_made_49, f0_done_50, f0_loopCount_51, f0_tired_52, f0_waiting_53, am1001_56, am1002_59, am1003_62, am1004_65, am1005_68, am1006_71, am1007_74, am1008_77⟩ := u
            refine cn_nm h (fun x1_78 h => ?_)
            exact ih _ _ _ _ _ _ _ _ _ _ _ _ _ _ _ _ h
def nb_wpX_run (post : St2 → Bool) (u : St2) : Bool := match u with
  | (f0_count, f0_known, f0_made, f0_done, f0_loopCount, f0_tired, f0_waiting, a1, a2, a3, a4, a5, a6, a7, a8) => (if f0_known = 0 then (nb_wpX_copyNet (fun u => match u with | (f0_count_3, f0_known_4, f0_made_5, f0_done_6, f0_loopCount_7, f0_tired_8, f0_waiting_9, am91_12, am92_15, am93_18, am94_21, am95_24, am96_27, am97_30, am98_33) => (nb_wX_run_14 post 12 0 f0_count_3 f0_known_4 f0_made_5 f0_done_6 f0_loopCount_7 f0_tired_8 f0_waiting_9 am91_12 am92_15 am93_18 am94_21 am95_24 am96_27 am97_30 am98_33)) (f0_count, f0_known, f0_made, f0_done, f0_loopCount, f0_tired, f0_waiting, a1, a2, a3, a4, a5, a6, a7, a8)) else (post (f0_count, f0_known, f0_made, f0_done, f0_loopCount, f0_tired, f0_waiting, a1, a2, a3, a4, a5, a6, a7, a8)))
theorem ns_wpX_run (post : St2 → Bool) (qost : St2 → Prop) (hp : ∀ v0, post v0 = true → qost v0) (u : St2) (h : nb_wpX_run post u = true) : wpX_run qost u := by
  obtain ⟨f0_count, f0_known, f0_made, f0_done, f0_loopCount, f0_tired, f0_waiting, a1, a2, a3, a4, a5, a6, a7, a8⟩ := u
  unfold nb_wpX_run at h
  unfold wpX_run
  refine cn_br h (fun h => ?_) (fun h => ?_)
  · refine ns_wpX_copyNet _ _ (fun u h => ?_) _ h
    obtain ⟨f0_count_3, f0_known_4, f0_made_5, f0_done_6, f0_loopCount_7, f0_tired_8, f0_waiting_9, am91_12, am92_15, am93_18, am94_21, am95_24, am96_27, am97_30, am98_33⟩ := u
    refine ⟨12, ?_⟩
    exact ns_wX_run_14 post qost hp _ _ _ _ _ _ _ _ _ _ _ _ _ _ _ _ _ h
  · exact hp _ h
def nb_wpX_steps (post : Int32 → St2 → Bool) (u : St2) : Bool := match u with
  | (f0_count, f0_known, f0_made, f0_done, f0_loopCount, f0_tired, f0_waiting, a1, a2, a3, a4, a5, a6, a7, a8) => (nb_wpX_run (fun u => match u with | (f0_count_2, f0_known_3, f0_made_4, f0_done_5, f0_loopCount_6, f0_tired_7, f0_waiting_8, am11_11, am12_14, am13_17, am14_20, am15_23, am16_26, am17_29, am18_32) => (if f0_tired_7 = 0 then (post f0_done_5 (f0_count_2, f0_known_3, f0_made_4, f0_done_5, f0_loopCount_6, f0_tired_7, f0_waiting_8, am11_11, am12_14, am13_17, am14_20, am15_23, am16_26, am17_29, am18_32)) else (post (-5) (f0_count_2, f0_known_3, f0_made_4, f0_done_5, f0_loopCount_6, f0_tired_7, f0_waiting_8, am11_11, am12_14, am13_17, am14_20, am15_23, am16_26, am17_29, am18_32)))) (f0_count, f0_known, f0_made, f0_done, f0_loopCount, f0_tired, f0_waiting, a1, a2, a3, a4, a5, a6, a7, a8))
theorem ns_wpX_steps (post : Int32 → St2 → Bool) (qost : Int32 → St2 → Prop) (hp : ∀ v0 v1, post v0 v1 = true → qost v0 v1) (u : St2) (h : nb_wpX_steps post u = true) : wpX_steps qost u := by
  obtain ⟨f0_count, f0_known, f0_made, f0_done, f0_loopCount, f0_tired, f0_waiting, a1, a2, a3, a4, a5, a6, a7, a8⟩ := u
  unfold nb_wpX_steps at h
  unfold wpX_steps
  refine ns_wpX_run _ _ (fun u h => ?_) _ h
  obtain ⟨f0_count_2, f0_known_3, f0_made_4, f0_done_5, f0_loopCount_6, f0_tired_7, f0_waiting_8, am11_11, am12_14, am13_17, am14_20, am15_23, am16_26, am17_29, am18_32⟩ := u
  refine cn_br h (fun h => ?_) (fun h => ?_)
  · exact hp _ _ h
  · exact hp _ _ h
end
section
/-! Computable mirrors (Bool) of the printed predicates, and that they are sound. Printed by wip/D-11178/gen.py. -/

def nb_wX_left_29 (post : Int32 → St2 → Bool) (x1 : Int32) (f0_count : Int32) (f0_known : Int32) (f0_made : Int32) (f0_done : Int32) (f0_loopCount : Int32) (f0_tired : Int32) (f0_waiting : Int32) (am121 : Nat → Int32) (am122 : Nat → Int32) (am123 : Nat → Int32) (am124 : Nat → Int32) (am125 : Nat → Int32) (am126 : Nat → Int32) (am127 : Nat → Int32) (am128 : Nat → Int32) : Nat → Int32 → Int32 → Bool
  | 0 => fun _ _ => false
  | n + 1 => fun x2 x3 => (if f0_made ≤ x3 then (post x2 (f0_count, f0_known, f0_made, f0_done, f0_loopCount, f0_tired, f0_waiting, am121, am122, am123, am124, am125, am126, am127, am128)) else (cn_in x3 490 && (if (am124 x3.toNatClampNeg) = 0 then (cn_in x3 490 && (if (am123 x3.toNatClampNeg) = x1 then (cn_let (α := Int32) (x2 + 1) (fun x2_43 => (cn_let (α := Int32) (x3 + 1) (fun x3_44 => (nb_wX_left_29 post x1 f0_count f0_known f0_made f0_done f0_loopCount f0_tired f0_waiting am121 am122 am123 am124 am125 am126 am127 am128 n x2_43 x3_44))))) else (cn_let (α := Int32) (x3 + 1) (fun x3_42 => (nb_wX_left_29 post x1 f0_count f0_known f0_made f0_done f0_loopCount f0_tired f0_waiting am121 am122 am123 am124 am125 am126 am127 am128 n x2 x3_42))))) else (cn_let (α := Int32) (x3 + 1) (fun x3_39 => (nb_wX_left_29 post x1 f0_count f0_known f0_made f0_done f0_loopCount f0_tired f0_waiting am121 am122 am123 am124 am125 am126 am127 am128 n x2 x3_39))))))
theorem ns_wX_left_29 (post : Int32 → St2 → Bool) (qost : Int32 → St2 → Prop) (hp : ∀ v0 v1, post v0 v1 = true → qost v0 v1) (x1 : Int32) (f0_count : Int32) (f0_known : Int32) (f0_made : Int32) (f0_done : Int32) (f0_loopCount : Int32) (f0_tired : Int32) (f0_waiting : Int32) (am121 : Nat → Int32) (am122 : Nat → Int32) (am123 : Nat → Int32) (am124 : Nat → Int32) (am125 : Nat → Int32) (am126 : Nat → Int32) (am127 : Nat → Int32) (am128 : Nat → Int32) : ∀ (n : Nat) (x2 : Int32) (x3 : Int32), nb_wX_left_29 post x1 f0_count f0_known f0_made f0_done f0_loopCount f0_tired f0_waiting am121 am122 am123 am124 am125 am126 am127 am128 n x2 x3 = true → wX_left_29 qost x1 f0_count f0_known f0_made f0_done f0_loopCount f0_tired f0_waiting am121 am122 am123 am124 am125 am126 am127 am128 n x2 x3 := by
  intro n
  induction n with
  | zero => intro x2 x3 h; exact absurd h Bool.false_ne_true
  | succ n ih =>
    intro x2 x3 h
    refine cn_br h (fun h => ?_) (fun h => ?_)
    · exact hp _ _ h
    · refine cn_vp h (fun h => ?_)
      refine cn_br h (fun h => ?_) (fun h => ?_)
      · refine cn_vp h (fun h => ?_)
        refine cn_br h (fun h => ?_) (fun h => ?_)
        · refine cn_nm h (fun x2_43 h => ?_)
          refine cn_nm h (fun x3_44 h => ?_)
          exact ih _ _ h
        · refine cn_nm h (fun x3_42 h => ?_)
          exact ih _ _ h
      · refine cn_nm h (fun x3_39 h => ?_)
        exact ih _ _ h
def nb_wpX_left (post : Int32 → St2 → Bool) (u : St2) (p0 : Int32) : Bool := match u with
  | (f0_count, f0_known, f0_made, f0_done, f0_loopCount, f0_tired, f0_waiting, a1, a2, a3, a4, a5, a6, a7, a8) => (if p0 < 0 then (post (-1) (f0_count, f0_known, f0_made, f0_done, f0_loopCount, f0_tired, f0_waiting, a1, a2, a3, a4, a5, a6, a7, a8)) else (if p0 ≤ 2 then (nb_wpX_run (fun u => match u with | (f0_count_4, f0_known_5, f0_made_6, f0_done_7, f0_loopCount_8, f0_tired_9, f0_waiting_10, am121_13, am122_16, am123_19, am124_22, am125_25, am126_28, am127_31, am128_34) => (if f0_tired_9 = 0 then (nb_wX_left_29 post p0 f0_count_4 f0_known_5 f0_made_6 f0_done_7 f0_loopCount_8 f0_tired_9 f0_waiting_10 am121_13 am122_16 am123_19 am124_22 am125_25 am126_28 am127_31 am128_34 12 0 0) else (post (-5) (f0_count_4, f0_known_5, f0_made_6, f0_done_7, f0_loopCount_8, f0_tired_9, f0_waiting_10, am121_13, am122_16, am123_19, am124_22, am125_25, am126_28, am127_31, am128_34)))) (f0_count, f0_known, f0_made, f0_done, f0_loopCount, f0_tired, f0_waiting, a1, a2, a3, a4, a5, a6, a7, a8)) else (post (-1) (f0_count, f0_known, f0_made, f0_done, f0_loopCount, f0_tired, f0_waiting, a1, a2, a3, a4, a5, a6, a7, a8))))
theorem ns_wpX_left (post : Int32 → St2 → Bool) (qost : Int32 → St2 → Prop) (hp : ∀ v0 v1, post v0 v1 = true → qost v0 v1) (u : St2) (p0 : Int32) (h : nb_wpX_left post u p0 = true) : wpX_left qost u p0 := by
  obtain ⟨f0_count, f0_known, f0_made, f0_done, f0_loopCount, f0_tired, f0_waiting, a1, a2, a3, a4, a5, a6, a7, a8⟩ := u
  unfold nb_wpX_left at h
  unfold wpX_left
  refine cn_br h (fun h => ?_) (fun h => ?_)
  · exact hp _ _ h
  · refine cn_br h (fun h => ?_) (fun h => ?_)
    · refine ns_wpX_run _ _ (fun u h => ?_) _ h
      obtain ⟨f0_count_4, f0_known_5, f0_made_6, f0_done_7, f0_loopCount_8, f0_tired_9, f0_waiting_10, am121_13, am122_16, am123_19, am124_22, am125_25, am126_28, am127_31, am128_34⟩ := u
      refine cn_br h (fun h => ?_) (fun h => ?_)
      · refine ⟨12, ?_⟩
        exact ns_wX_left_29 post qost hp _ _ _ _ _ _ _ _ _ _ _ _ _ _ _ _ _ _ _ h
      · exact hp _ _ h
    · exact hp _ _ h
def nb_wpX_named (post : Int32 → Bool) (u : St2) (p0 : Int32) : Bool := match u with
  | (f0_count, f0_known, f0_made, f0_done, f0_loopCount, f0_tired, f0_waiting, a1, a2, a3, a4, a5, a6, a7, a8) => (if p0 = (-1) then (post 9) else (if p0 < 1470 then (decide (¬ (3 : Int32) = 0) && (cn_in (p0 / 3) 490 && (decide (¬ (3 : Int32) = 0) && (post ((3 * (a3 (p0 / 3).toNatClampNeg)) + (p0 - p0 / 3 * 3)))))) else (post ((10 + p0) - 1470))))
theorem ns_wpX_named (post : Int32 → Bool) (qost : Int32 → Prop) (hp : ∀ v0, post v0 = true → qost v0) (u : St2) (p0 : Int32) (h : nb_wpX_named post u p0 = true) : wpX_named qost u p0 := by
  obtain ⟨f0_count, f0_known, f0_made, f0_done, f0_loopCount, f0_tired, f0_waiting, a1, a2, a3, a4, a5, a6, a7, a8⟩ := u
  unfold nb_wpX_named at h
  unfold wpX_named
  refine cn_br h (fun h => ?_) (fun h => ?_)
  · exact hp _ h
  · refine cn_br h (fun h => ?_) (fun h => ?_)
    · refine cn_an h (fun h => ?_)
      refine cn_vp h (fun h => ?_)
      refine cn_an h (fun h => ?_)
      exact hp _ h
    · exact hp _ h
def nb_wX_walk_135 (post : Int32 → St2 → Bool) (x3 : Int32) (f0_count : Int32) (f0_known : Int32) (f0_made : Int32) (f0_done : Int32) (f0_loopCount : Int32) (f0_tired : Int32) (f0_waiting : Int32) (am231 : Nat → Int32) (am232 : Nat → Int32) (am233 : Nat → Int32) (am234 : Nat → Int32) (am235 : Nat → Int32) (am236 : Nat → Int32) (am237 : Nat → Int32) (am238 : Nat → Int32) : Bool := (nb_wpX_named (fun r_41 => (post r_41 (f0_count, f0_known, f0_made, f0_done, f0_loopCount, f0_tired, f0_waiting, am231, am232, am233, am234, am235, am236, am237, am238))) (f0_count, f0_known, f0_made, f0_done, f0_loopCount, f0_tired, f0_waiting, am231, am232, am233, am234, am235, am236, am237, am238) x3)
theorem ns_wX_walk_135 (post : Int32 → St2 → Bool) (qost : Int32 → St2 → Prop) (hp : ∀ v0 v1, post v0 v1 = true → qost v0 v1) (x3 : Int32) (f0_count : Int32) (f0_known : Int32) (f0_made : Int32) (f0_done : Int32) (f0_loopCount : Int32) (f0_tired : Int32) (f0_waiting : Int32) (am231 : Nat → Int32) (am232 : Nat → Int32) (am233 : Nat → Int32) (am234 : Nat → Int32) (am235 : Nat → Int32) (am236 : Nat → Int32) (am237 : Nat → Int32) (am238 : Nat → Int32) (h : nb_wX_walk_135 post x3 f0_count f0_known f0_made f0_done f0_loopCount f0_tired f0_waiting am231 am232 am233 am234 am235 am236 am237 am238 = true) : wX_walk_135 qost x3 f0_count f0_known f0_made f0_done f0_loopCount f0_tired f0_waiting am231 am232 am233 am234 am235 am236 am237 am238 := by
  unfold nb_wX_walk_135 at h
  unfold wX_walk_135
  refine ns_wpX_named _ _ (fun r_41 h => ?_) _ _ h
  exact hp _ _ h
def nb_wX_walk_53 (post : Int32 → St2 → Bool) (f0_count : Int32) (f0_known : Int32) (f0_made : Int32) (f0_done : Int32) (f0_loopCount : Int32) (f0_tired : Int32) (f0_waiting : Int32) (am231 : Nat → Int32) (am232 : Nat → Int32) (am233 : Nat → Int32) (am234 : Nat → Int32) (am235 : Nat → Int32) (am236 : Nat → Int32) (am237 : Nat → Int32) (am238 : Nat → Int32) : Nat → Int32 → Int32 → Int32 → Bool
  | 0 => fun _ _ _ => false
  | n + 1 => fun x3 x4 x5 => (if 12 ≤ x5 then (nb_wX_walk_135 post x3 f0_count f0_known f0_made f0_done f0_loopCount f0_tired f0_waiting am231 am232 am233 am234 am235 am236 am237 am238) else (if x4 ≤ 0 then (nb_wX_walk_135 post x3 f0_count f0_known f0_made f0_done f0_loopCount f0_tired f0_waiting am231 am232 am233 am234 am235 am236 am237 am238) else false))
theorem ns_wX_walk_53 (post : Int32 → St2 → Bool) (qost : Int32 → St2 → Prop) (hp : ∀ v0 v1, post v0 v1 = true → qost v0 v1) (f0_count : Int32) (f0_known : Int32) (f0_made : Int32) (f0_done : Int32) (f0_loopCount : Int32) (f0_tired : Int32) (f0_waiting : Int32) (am231 : Nat → Int32) (am232 : Nat → Int32) (am233 : Nat → Int32) (am234 : Nat → Int32) (am235 : Nat → Int32) (am236 : Nat → Int32) (am237 : Nat → Int32) (am238 : Nat → Int32) : ∀ (n : Nat) (x3 : Int32) (x4 : Int32) (x5 : Int32), nb_wX_walk_53 post f0_count f0_known f0_made f0_done f0_loopCount f0_tired f0_waiting am231 am232 am233 am234 am235 am236 am237 am238 n x3 x4 x5 = true → wX_walk_53 qost f0_count f0_known f0_made f0_done f0_loopCount f0_tired f0_waiting am231 am232 am233 am234 am235 am236 am237 am238 n x3 x4 x5 := by
  intro n
  induction n with
  | zero => intro x3 x4 x5 h; exact absurd h Bool.false_ne_true
  | succ n ih =>
    intro x3 x4 x5 h
    refine cn_br h (fun h => ?_) (fun h => ?_)
    · exact ns_wX_walk_135 post qost hp _ _ _ _ _ _ _ _ _ _ _ _ _ _ _ _ h
    · refine cn_br h (fun h => ?_) (fun h => ?_)
      · exact ns_wX_walk_135 post qost hp _ _ _ _ _ _ _ _ _ _ _ _ _ _ _ _ h
      · exact absurd h Bool.false_ne_true
def nb_wpX_walk (post : Int32 → St2 → Bool) (u : St2) (p0 : Int32) (p1 : Int32) : Bool := match u with
  | (f0_count, f0_known, f0_made, f0_done, f0_loopCount, f0_tired, f0_waiting, a1, a2, a3, a4, a5, a6, a7, a8) => (if p0 < 0 then (post (-1) (f0_count, f0_known, f0_made, f0_done, f0_loopCount, f0_tired, f0_waiting, a1, a2, a3, a4, a5, a6, a7, a8)) else (if 3 < p0 then (post (-1) (f0_count, f0_known, f0_made, f0_done, f0_loopCount, f0_tired, f0_waiting, a1, a2, a3, a4, a5, a6, a7, a8)) else (if p1 < 0 then (post (-1) (f0_count, f0_known, f0_made, f0_done, f0_loopCount, f0_tired, f0_waiting, a1, a2, a3, a4, a5, a6, a7, a8)) else (if p1 ≤ 4095 then (nb_wpX_run (fun u => match u with | (f0_count_6, f0_known_7, f0_made_8, f0_done_9, f0_loopCount_10, f0_tired_11, f0_waiting_12, am231_15, am232_18, am233_21, am234_24, am235_27, am236_30, am237_33, am238_36) => (if f0_tired_11 = 0 then (cn_in (1470 + p0) 1474 && (cn_let (α := Int32) (am235_27 (1470 + p0).toNatClampNeg) (fun x3_39 => (nb_wX_walk_53 post f0_count_6 f0_known_7 f0_made_8 f0_done_9 f0_loopCount_10 f0_tired_11 f0_waiting_12 am231_15 am232_18 am233_21 am234_24 am235_27 am236_30 am237_33 am238_36 3 x3_39 p1 0)))) else (post (-5) (f0_count_6, f0_known_7, f0_made_8, f0_done_9, f0_loopCount_10, f0_tired_11, f0_waiting_12, am231_15, am232_18, am233_21, am234_24, am235_27, am236_30, am237_33, am238_36)))) (f0_count, f0_known, f0_made, f0_done, f0_loopCount, f0_tired, f0_waiting, a1, a2, a3, a4, a5, a6, a7, a8)) else (post (-1) (f0_count, f0_known, f0_made, f0_done, f0_loopCount, f0_tired, f0_waiting, a1, a2, a3, a4, a5, a6, a7, a8))))))
theorem ns_wpX_walk (post : Int32 → St2 → Bool) (qost : Int32 → St2 → Prop) (hp : ∀ v0 v1, post v0 v1 = true → qost v0 v1) (u : St2) (p0 : Int32) (p1 : Int32) (h : nb_wpX_walk post u p0 p1 = true) : wpX_walk qost u p0 p1 := by
  obtain ⟨f0_count, f0_known, f0_made, f0_done, f0_loopCount, f0_tired, f0_waiting, a1, a2, a3, a4, a5, a6, a7, a8⟩ := u
  unfold nb_wpX_walk at h
  unfold wpX_walk
  refine cn_br h (fun h => ?_) (fun h => ?_)
  · exact hp _ _ h
  · refine cn_br h (fun h => ?_) (fun h => ?_)
    · exact hp _ _ h
    · refine cn_br h (fun h => ?_) (fun h => ?_)
      · exact hp _ _ h
      · refine cn_br h (fun h => ?_) (fun h => ?_)
        · refine ns_wpX_run _ _ (fun u h => ?_) _ h
          obtain ⟨f0_count_6, f0_known_7, f0_made_8, f0_done_9, f0_loopCount_10, f0_tired_11, f0_waiting_12, am231_15, am232_18, am233_21, am234_24, am235_27, am236_30, am237_33, am238_36⟩ := u
          refine cn_br h (fun h => ?_) (fun h => ?_)
          · refine cn_vp h (fun h => ?_)
            refine cn_nm h (fun x3_39 h => ?_)
            refine ⟨3, ?_⟩
            exact ns_wX_walk_53 post qost hp _ _ _ _ _ _ _ _ _ _ _ _ _ _ _ _ _ _ _ h
          · exact hp _ _ h
        · exact hp _ _ h
def nb_wL_lawOf_239 (post : Int32 → St0 → Bool) (mc : Nat) (ms : Nat) (x7 : Int32) (x8 : Int32) (x9 : Int32) (x10 : Int32) (x11 : Int32) (x14 : Int32) (x15 : Int32) (z0 : Int32) (kc : Nat) (ks : Nat) : Bool := (if x7 = 1 then (if x8 = x14 then (if x9 = x14 then (if x10 = x15 then (if x11 = z0 then (post 1 ()) else (post 0 ())) else (post 0 ())) else (post 0 ())) else (post 0 ())) else (post 0 ()))
theorem ns_wL_lawOf_239 (post : Int32 → St0 → Bool) (qost : Int32 → St0 → Prop) (hp : ∀ v0 v1, post v0 v1 = true → qost v0 v1) (mc : Nat) (ms : Nat) (x7 : Int32) (x8 : Int32) (x9 : Int32) (x10 : Int32) (x11 : Int32) (x14 : Int32) (x15 : Int32) (z0 : Int32) (kc : Nat) (ks : Nat) (h : nb_wL_lawOf_239 post mc ms x7 x8 x9 x10 x11 x14 x15 z0 kc ks = true) : wL_lawOf_239 qost mc ms x7 x8 x9 x10 x11 x14 x15 z0 kc ks := by
  unfold nb_wL_lawOf_239 at h
  unfold wL_lawOf_239
  refine cn_br h (fun h => ?_) (fun h => ?_)
  · refine cn_br h (fun h => ?_) (fun h => ?_)
    · refine cn_br h (fun h => ?_) (fun h => ?_)
      · refine cn_br h (fun h => ?_) (fun h => ?_)
        · refine cn_br h (fun h => ?_) (fun h => ?_)
          · exact hp _ _ h
          · exact hp _ _ h
        · exact hp _ _ h
      · exact hp _ _ h
    · exact hp _ _ h
  · exact hp _ _ h
def nb_wL_lawOf_191 (post : Int32 → St0 → Bool) (mc : Nat) (ms : Nat) (x3 : Int32) (x4 : Int32) (x5 : Int32) (x6 : Int32) (x7 : Int32) (x8 : Int32) (x9 : Int32) (x10 : Int32) (x11 : Int32) (x12 : Int32) (x13 : Int32) (x14 : Int32) (z0 : Int32) (kc : Nat) (ks : Nat) : Bool := (if x3 = 2 then (nb_wL_lawOf_239 post mc ms x7 x8 x9 x10 x11 x14 z0 9 kc ks) else (if x12 = 0 then (nb_wL_lawOf_239 post mc ms x7 x8 x9 x10 x11 x14 z0 6 kc ks) else (if x13 = 0 then (nb_wL_lawOf_239 post mc ms x7 x8 x9 x10 x11 x14 z0 (3 * x4) kc ks) else (if x5 = x6 then (nb_wL_lawOf_239 post mc ms x7 x8 x9 x10 x11 x14 z0 11 kc ks) else (nb_wL_lawOf_239 post mc ms x7 x8 x9 x10 x11 x14 z0 9 kc ks)))))
theorem ns_wL_lawOf_191 (post : Int32 → St0 → Bool) (qost : Int32 → St0 → Prop) (hp : ∀ v0 v1, post v0 v1 = true → qost v0 v1) (mc : Nat) (ms : Nat) (x3 : Int32) (x4 : Int32) (x5 : Int32) (x6 : Int32) (x7 : Int32) (x8 : Int32) (x9 : Int32) (x10 : Int32) (x11 : Int32) (x12 : Int32) (x13 : Int32) (x14 : Int32) (z0 : Int32) (kc : Nat) (ks : Nat) (h : nb_wL_lawOf_191 post mc ms x3 x4 x5 x6 x7 x8 x9 x10 x11 x12 x13 x14 z0 kc ks = true) : wL_lawOf_191 qost mc ms x3 x4 x5 x6 x7 x8 x9 x10 x11 x12 x13 x14 z0 kc ks := by
  unfold nb_wL_lawOf_191 at h
  unfold wL_lawOf_191
  refine cn_br h (fun h => ?_) (fun h => ?_)
  · exact ns_wL_lawOf_239 post qost hp _ _ _ _ _ _ _ _ _ _ _ _ h
  · refine cn_br h (fun h => ?_) (fun h => ?_)
    · exact ns_wL_lawOf_239 post qost hp _ _ _ _ _ _ _ _ _ _ _ _ h
    · refine cn_br h (fun h => ?_) (fun h => ?_)
      · exact ns_wL_lawOf_239 post qost hp _ _ _ _ _ _ _ _ _ _ _ _ h
      · refine cn_br h (fun h => ?_) (fun h => ?_)
        · exact ns_wL_lawOf_239 post qost hp _ _ _ _ _ _ _ _ _ _ _ _ h
        · exact ns_wL_lawOf_239 post qost hp _ _ _ _ _ _ _ _ _ _ _ _ h
def nb_wL_lawOf_183 (post : Int32 → St0 → Bool) (mc : Nat) (ms : Nat) (x3 : Int32) (x4 : Int32) (x5 : Int32) (x6 : Int32) (x7 : Int32) (x8 : Int32) (x9 : Int32) (x10 : Int32) (x11 : Int32) (x12 : Int32) (x13 : Int32) (x14 : Int32) (z0 : Int32) (z1 : Int32) (kc : Nat) (ks : Nat) : Bool := (if z1 = z0 then (nb_wL_lawOf_191 post mc ms x3 x4 x5 x6 x7 x8 x9 x10 x11 x12 x13 x14 0 kc ks) else (nb_wL_lawOf_191 post mc ms x3 x4 x5 x6 x7 x8 x9 x10 x11 x12 x13 x14 2 kc ks))
theorem ns_wL_lawOf_183 (post : Int32 → St0 → Bool) (qost : Int32 → St0 → Prop) (hp : ∀ v0 v1, post v0 v1 = true → qost v0 v1) (mc : Nat) (ms : Nat) (x3 : Int32) (x4 : Int32) (x5 : Int32) (x6 : Int32) (x7 : Int32) (x8 : Int32) (x9 : Int32) (x10 : Int32) (x11 : Int32) (x12 : Int32) (x13 : Int32) (x14 : Int32) (z0 : Int32) (z1 : Int32) (kc : Nat) (ks : Nat) (h : nb_wL_lawOf_183 post mc ms x3 x4 x5 x6 x7 x8 x9 x10 x11 x12 x13 x14 z0 z1 kc ks = true) : wL_lawOf_183 qost mc ms x3 x4 x5 x6 x7 x8 x9 x10 x11 x12 x13 x14 z0 z1 kc ks := by
  unfold nb_wL_lawOf_183 at h
  unfold wL_lawOf_183
  refine cn_br h (fun h => ?_) (fun h => ?_)
  · exact ns_wL_lawOf_191 post qost hp _ _ _ _ _ _ _ _ _ _ _ _ _ _ _ _ _ h
  · exact ns_wL_lawOf_191 post qost hp _ _ _ _ _ _ _ _ _ _ _ _ _ _ _ _ _ h
def nb_wL_lawOf_172 (post : Int32 → St0 → Bool) (mc : Nat) (ms : Nat) (x3 : Int32) (x4 : Int32) (x5 : Int32) (x6 : Int32) (x7 : Int32) (x8 : Int32) (x9 : Int32) (x10 : Int32) (x11 : Int32) (x12 : Int32) (x13 : Int32) (x14 : Int32) (z0 : Int32) (kc : Nat) (ks : Nat) : Bool := (if x4 = 2 then (nb_wL_lawOf_183 post mc ms x3 x4 x5 x6 x7 x8 x9 x10 x11 x12 x13 x14 1 z0 kc ks) else (nb_wL_lawOf_183 post mc ms x3 x4 x5 x6 x7 x8 x9 x10 x11 x12 x13 x14 0 z0 kc ks))
theorem ns_wL_lawOf_172 (post : Int32 → St0 → Bool) (qost : Int32 → St0 → Prop) (hp : ∀ v0 v1, post v0 v1 = true → qost v0 v1) (mc : Nat) (ms : Nat) (x3 : Int32) (x4 : Int32) (x5 : Int32) (x6 : Int32) (x7 : Int32) (x8 : Int32) (x9 : Int32) (x10 : Int32) (x11 : Int32) (x12 : Int32) (x13 : Int32) (x14 : Int32) (z0 : Int32) (kc : Nat) (ks : Nat) (h : nb_wL_lawOf_172 post mc ms x3 x4 x5 x6 x7 x8 x9 x10 x11 x12 x13 x14 z0 kc ks = true) : wL_lawOf_172 qost mc ms x3 x4 x5 x6 x7 x8 x9 x10 x11 x12 x13 x14 z0 kc ks := by
  unfold nb_wL_lawOf_172 at h
  unfold wL_lawOf_172
  refine cn_br h (fun h => ?_) (fun h => ?_)
  · exact ns_wL_lawOf_183 post qost hp _ _ _ _ _ _ _ _ _ _ _ _ _ _ _ _ _ _ h
  · exact ns_wL_lawOf_183 post qost hp _ _ _ _ _ _ _ _ _ _ _ _ _ _ _ _ _ _ h
def nb_wL_lawOf_160 (post : Int32 → St0 → Bool) (mc : Nat) (ms : Nat) (x3 : Int32) (x4 : Int32) (x5 : Int32) (x6 : Int32) (x7 : Int32) (x8 : Int32) (x9 : Int32) (x10 : Int32) (x11 : Int32) (x12 : Int32) (x13 : Int32) (z0 : Int32) (kc : Nat) (ks : Nat) : Bool := (if x3 = 2 then (nb_wL_lawOf_172 post mc ms x3 x4 x5 x6 x7 x8 x9 x10 x11 x12 x13 z0 1 kc ks) else (nb_wL_lawOf_172 post mc ms x3 x4 x5 x6 x7 x8 x9 x10 x11 x12 x13 z0 0 kc ks))
theorem ns_wL_lawOf_160 (post : Int32 → St0 → Bool) (qost : Int32 → St0 → Prop) (hp : ∀ v0 v1, post v0 v1 = true → qost v0 v1) (mc : Nat) (ms : Nat) (x3 : Int32) (x4 : Int32) (x5 : Int32) (x6 : Int32) (x7 : Int32) (x8 : Int32) (x9 : Int32) (x10 : Int32) (x11 : Int32) (x12 : Int32) (x13 : Int32) (z0 : Int32) (kc : Nat) (ks : Nat) (h : nb_wL_lawOf_160 post mc ms x3 x4 x5 x6 x7 x8 x9 x10 x11 x12 x13 z0 kc ks = true) : wL_lawOf_160 qost mc ms x3 x4 x5 x6 x7 x8 x9 x10 x11 x12 x13 z0 kc ks := by
  unfold nb_wL_lawOf_160 at h
  unfold wL_lawOf_160
  refine cn_br h (fun h => ?_) (fun h => ?_)
  · exact ns_wL_lawOf_172 post qost hp _ _ _ _ _ _ _ _ _ _ _ _ _ _ _ _ _ h
  · exact ns_wL_lawOf_172 post qost hp _ _ _ _ _ _ _ _ _ _ _ _ _ _ _ _ _ h
def nb_wL_lawOf_159 (post : Int32 → St0 → Bool) (mc : Nat) (ms : Nat) (x3 : Int32) (x4 : Int32) (x5 : Int32) (x6 : Int32) (x7 : Int32) (x8 : Int32) (x9 : Int32) (x10 : Int32) (x11 : Int32) (x12 : Int32) (x13 : Int32) (kc : Nat) (ks : Nat) : Bool := (nb_wL_lawOf_160 post mc ms x3 x4 x5 x6 x7 x8 x9 x10 x11 x12 x13 0 kc ks)
theorem ns_wL_lawOf_159 (post : Int32 → St0 → Bool) (qost : Int32 → St0 → Prop) (hp : ∀ v0 v1, post v0 v1 = true → qost v0 v1) (mc : Nat) (ms : Nat) (x3 : Int32) (x4 : Int32) (x5 : Int32) (x6 : Int32) (x7 : Int32) (x8 : Int32) (x9 : Int32) (x10 : Int32) (x11 : Int32) (x12 : Int32) (x13 : Int32) (kc : Nat) (ks : Nat) (h : nb_wL_lawOf_159 post mc ms x3 x4 x5 x6 x7 x8 x9 x10 x11 x12 x13 kc ks = true) : wL_lawOf_159 qost mc ms x3 x4 x5 x6 x7 x8 x9 x10 x11 x12 x13 kc ks := by
  unfold nb_wL_lawOf_159 at h
  unfold wL_lawOf_159
  exact ns_wL_lawOf_160 post qost hp _ _ _ _ _ _ _ _ _ _ _ _ _ _ _ _ h
def nb_wL_lawOf_143 (post : Int32 → St0 → Bool) (mc : Nat) (ms : Nat) (x3 : Int32) (x4 : Int32) (x5 : Int32) (x6 : Int32) (x7 : Int32) (x8 : Int32) (x9 : Int32) (x10 : Int32) (x11 : Int32) (x12 : Int32) (z0 : Int32) (kc : Nat) (ks : Nat) : Bool := (if x12 = 0 then (nb_wL_lawOf_159 post mc ms x3 x4 x5 x6 x7 x8 x9 x10 x11 x12 z0 kc ks) else (if z0 = 0 then (nb_wL_lawOf_160 post mc ms x3 x4 x5 x6 x7 x8 x9 x10 x11 x12 z0 2 kc ks) else (nb_wL_lawOf_159 post mc ms x3 x4 x5 x6 x7 x8 x9 x10 x11 x12 z0 kc ks)))
theorem ns_wL_lawOf_143 (post : Int32 → St0 → Bool) (qost : Int32 → St0 → Prop) (hp : ∀ v0 v1, post v0 v1 = true → qost v0 v1) (mc : Nat) (ms : Nat) (x3 : Int32) (x4 : Int32) (x5 : Int32) (x6 : Int32) (x7 : Int32) (x8 : Int32) (x9 : Int32) (x10 : Int32) (x11 : Int32) (x12 : Int32) (z0 : Int32) (kc : Nat) (ks : Nat) (h : nb_wL_lawOf_143 post mc ms x3 x4 x5 x6 x7 x8 x9 x10 x11 x12 z0 kc ks = true) : wL_lawOf_143 qost mc ms x3 x4 x5 x6 x7 x8 x9 x10 x11 x12 z0 kc ks := by
  unfold nb_wL_lawOf_143 at h
  unfold wL_lawOf_143
  refine cn_br h (fun h => ?_) (fun h => ?_)
  · exact ns_wL_lawOf_159 post qost hp _ _ _ _ _ _ _ _ _ _ _ _ _ _ _ h
  · refine cn_br h (fun h => ?_) (fun h => ?_)
    · exact ns_wL_lawOf_160 post qost hp _ _ _ _ _ _ _ _ _ _ _ _ _ _ _ _ h
    · exact ns_wL_lawOf_159 post qost hp _ _ _ _ _ _ _ _ _ _ _ _ _ _ _ h
def nb_wL_lawOf_130 (post : Int32 → St0 → Bool) (mc : Nat) (ms : Nat) (x3 : Int32) (x4 : Int32) (x5 : Int32) (x6 : Int32) (x7 : Int32) (x8 : Int32) (x9 : Int32) (x10 : Int32) (x11 : Int32) (z0 : Int32) (kc : Nat) (ks : Nat) : Bool := (if x3 = x4 then (nb_wL_lawOf_143 post mc ms x3 x4 x5 x6 x7 x8 x9 x10 x11 z0 1 kc ks) else (nb_wL_lawOf_143 post mc ms x3 x4 x5 x6 x7 x8 x9 x10 x11 z0 0 kc ks))
theorem ns_wL_lawOf_130 (post : Int32 → St0 → Bool) (qost : Int32 → St0 → Prop) (hp : ∀ v0 v1, post v0 v1 = true → qost v0 v1) (mc : Nat) (ms : Nat) (x3 : Int32) (x4 : Int32) (x5 : Int32) (x6 : Int32) (x7 : Int32) (x8 : Int32) (x9 : Int32) (x10 : Int32) (x11 : Int32) (z0 : Int32) (kc : Nat) (ks : Nat) (h : nb_wL_lawOf_130 post mc ms x3 x4 x5 x6 x7 x8 x9 x10 x11 z0 kc ks = true) : wL_lawOf_130 qost mc ms x3 x4 x5 x6 x7 x8 x9 x10 x11 z0 kc ks := by
  unfold nb_wL_lawOf_130 at h
  unfold wL_lawOf_130
  refine cn_br h (fun h => ?_) (fun h => ?_)
  · exact ns_wL_lawOf_143 post qost hp _ _ _ _ _ _ _ _ _ _ _ _ _ _ _ h
  · exact ns_wL_lawOf_143 post qost hp _ _ _ _ _ _ _ _ _ _ _ _ _ _ _ h
def nb_wL_lawOf_129 (post : Int32 → St0 → Bool) (mc : Nat) (ms : Nat) (x3 : Int32) (x4 : Int32) (x5 : Int32) (x6 : Int32) (x7 : Int32) (x8 : Int32) (x9 : Int32) (x10 : Int32) (x11 : Int32) (kc : Nat) (ks : Nat) : Bool := (nb_wL_lawOf_130 post mc ms x3 x4 x5 x6 x7 x8 x9 x10 x11 0 kc ks)
theorem ns_wL_lawOf_129 (post : Int32 → St0 → Bool) (qost : Int32 → St0 → Prop) (hp : ∀ v0 v1, post v0 v1 = true → qost v0 v1) (mc : Nat) (ms : Nat) (x3 : Int32) (x4 : Int32) (x5 : Int32) (x6 : Int32) (x7 : Int32) (x8 : Int32) (x9 : Int32) (x10 : Int32) (x11 : Int32) (kc : Nat) (ks : Nat) (h : nb_wL_lawOf_129 post mc ms x3 x4 x5 x6 x7 x8 x9 x10 x11 kc ks = true) : wL_lawOf_129 qost mc ms x3 x4 x5 x6 x7 x8 x9 x10 x11 kc ks := by
  unfold nb_wL_lawOf_129 at h
  unfold wL_lawOf_129
  exact ns_wL_lawOf_130 post qost hp _ _ _ _ _ _ _ _ _ _ _ _ _ _ h
end
section
/-! The law: its mirror over the two kinds and the two ports. Printed by wip/D-11178/gen.py. -/
def nb_tail (post : Int32 → St0 → Bool) (x3_41 x4_43 x5_44 x6_45 : Int32) (u : St2) : Bool := match u with
  | (fm0_count_5, fm0_known_6, fm0_made_7, fm0_done_8, fm0_loopCount_9, fm0_tired_10, fm0_waiting_11, am41_14, am42_17, am43_20, am44_23, am45_26, am46_29, am47_32, am48_35) => (nb_wpX_cell (fun r_46 u => match u with | (fm0_count_47, fm0_known_48, fm0_made_49, fm0_done_50, fm0_loopCount_51, fm0_tired_52, fm0_waiting_53, am411_56, am412_59, am413_62, am414_65, am415_68, am416_71, am417_74, am418_77) => (nb_wpX_cell (fun r_78 u => match u with | (fm0_count_79, fm0_known_80, fm0_made_81, fm0_done_82, fm0_loopCount_83, fm0_tired_84, fm0_waiting_85, am481_88, am482_91, am483_94, am484_97, am485_100, am486_103, am487_106, am488_109) => (nb_wpX_join (fun r_110 u => match u with | (fm0_count_111, fm0_known_112, fm0_made_113, fm0_done_114, fm0_loopCount_115, fm0_tired_116, fm0_waiting_117, am551_120, am552_123, am553_126, am554_129, am555_132, am556_135, am557_138, am558_141) => (nb_wpX_join (fun r_142 u => match u with | (fm0_count_143, fm0_known_144, fm0_made_145, fm0_done_146, fm0_loopCount_147, fm0_tired_148, fm0_waiting_149, am641_152, am642_155, am643_158, am644_161, am645_164, am646_167, am647_170, am648_173) => (nb_wpX_join (fun r_174 u => match u with | (fm0_count_175, fm0_known_176, fm0_made_177, fm0_done_178, fm0_loopCount_179, fm0_tired_180, fm0_waiting_181, am751_184, am752_187, am753_190, am754_193, am755_196, am756_199, am757_202, am758_205) => (nb_wpX_steps (fun r_206 u => match u with | (fm0_count_207, fm0_known_208, fm0_made_209, fm0_done_210, fm0_loopCount_211, fm0_tired_212, fm0_waiting_213, am801_216, am802_219, am803_222, am804_225, am805_228, am806_231, am807_234, am808_237) => (nb_wpX_left (fun r_238 u => match u with | (fm0_count_239, fm0_known_240, fm0_made_241, fm0_done_242, fm0_loopCount_243, fm0_tired_244, fm0_waiting_245, am871_248, am872_251, am873_254, am874_257, am875_260, am876_263, am877_266, am878_269) => (nb_wpX_left (fun r_270 u => match u with | (fm0_count_271, fm0_known_272, fm0_made_273, fm0_done_274, fm0_loopCount_275, fm0_tired_276, fm0_waiting_277, am941_280, am942_283, am943_286, am944_289, am945_292, am946_295, am947_298, am948_301) => (nb_wpX_left (fun r_302 u => match u with | (fm0_count_303, fm0_known_304, fm0_made_305, fm0_done_306, fm0_loopCount_307, fm0_tired_308, fm0_waiting_309, am1011_312, am1012_315, am1013_318, am1014_321, am1015_324, am1016_327, am1017_330, am1018_333) => (nb_wpX_walk (fun r_334 u => match u with | (fm0_count_335, fm0_known_336, fm0_made_337, fm0_done_338, fm0_loopCount_339, fm0_tired_340, fm0_waiting_341, am1091_344, am1092_347, am1093_350, am1094_353, am1095_356, am1096_359, am1097_362, am1098_365) => (if 2 ≤ x3_41 then (nb_wL_lawOf_129 post 9 4493 x3_41 x4_43 x5_44 x6_45 r_206 r_238 r_270 r_302 r_334 (1 + 8) (15 + 4478)) else (if 2 ≤ x4_43 then (nb_wL_lawOf_129 post 9 4493 x3_41 x4_43 x5_44 x6_45 r_206 r_238 r_270 r_302 r_334 (1 + 8) (15 + 4478)) else (nb_wL_lawOf_130 post 9 4493 x3_41 x4_43 x5_44 x6_45 r_206 r_238 r_270 r_302 r_334 1 (1 + 8) (15 + 4478))))) (fm0_count_303, fm0_known_304, fm0_made_305, fm0_done_306, fm0_loopCount_307, fm0_tired_308, fm0_waiting_309, am1011_312, am1012_315, am1013_318, am1014_321, am1015_324, am1016_327, am1017_330, am1018_333) 0 0)) (fm0_count_271, fm0_known_272, fm0_made_273, fm0_done_274, fm0_loopCount_275, fm0_tired_276, fm0_waiting_277, am941_280, am942_283, am943_286, am944_289, am945_292, am946_295, am947_298, am948_301) 2)) (fm0_count_239, fm0_known_240, fm0_made_241, fm0_done_242, fm0_loopCount_243, fm0_tired_244, fm0_waiting_245, am871_248, am872_251, am873_254, am874_257, am875_260, am876_263, am877_266, am878_269) 1)) (fm0_count_207, fm0_known_208, fm0_made_209, fm0_done_210, fm0_loopCount_211, fm0_tired_212, fm0_waiting_213, am801_216, am802_219, am803_222, am804_225, am805_228, am806_231, am807_234, am808_237) 0)) (fm0_count_175, fm0_known_176, fm0_made_177, fm0_done_178, fm0_loopCount_179, fm0_tired_180, fm0_waiting_181, am751_184, am752_187, am753_190, am754_193, am755_196, am756_199, am757_202, am758_205))) (fm0_count_143, fm0_known_144, fm0_made_145, fm0_done_146, fm0_loopCount_147, fm0_tired_148, fm0_waiting_149, am641_152, am642_155, am643_158, am644_161, am645_164, am646_167, am647_170, am648_173) (3 + x6_45) 31)) (fm0_count_111, fm0_known_112, fm0_made_113, fm0_done_114, fm0_loopCount_115, fm0_tired_116, fm0_waiting_117, am551_120, am552_123, am553_126, am554_129, am555_132, am556_135, am557_138, am558_141) x5_44 30)) (fm0_count_79, fm0_known_80, fm0_made_81, fm0_done_82, fm0_loopCount_83, fm0_tired_84, fm0_waiting_85, am481_88, am482_91, am483_94, am484_97, am485_100, am486_103, am487_106, am488_109) 0 3)) (fm0_count_47, fm0_known_48, fm0_made_49, fm0_done_50, fm0_loopCount_51, fm0_tired_52, fm0_waiting_53, am411_56, am412_59, am413_62, am414_65, am415_68, am416_71, am417_74, am418_77) x4_43)) (fm0_count_5, fm0_known_6, fm0_made_7, fm0_done_8, fm0_loopCount_9, fm0_tired_10, fm0_waiting_11, am41_14, am42_17, am43_20, am44_23, am45_26, am46_29, am47_32, am48_35) x3_41)
def nb_law (x3_41 x4_43 x5_44 x6_45 : Int32) : Bool := nb_wX_init_76 (nb_tail (fun r _ => decide (r = 1)) x3_41 x4_43 x5_44 x6_45) 8 4478 8 4478 0 0 0 0 0 0 0 40 0 (fun _ => 0) (fun _ => 0) (fun _ => 0) (fun _ => 0) (fun _ => 0) (fun _ => 0) (fun _ => 0) (fun _ => 0)
theorem ns_init (post : St2 → Bool) (qost : St2 → Prop) (hp : ∀ v0, post v0 = true → qost v0) (h : nb_wX_init_76 post 8 4478 8 4478 0 0 0 0 0 0 0 40 0 (fun _ => 0) (fun _ => 0) (fun _ => 0) (fun _ => 0) (fun _ => 0) (fun _ => 0) (fun _ => 0) (fun _ => 0) = true) : wpX_init qost 8 4478 (0, 0, 0, 0, 0, 0, 0) :=
  ⟨by decide, by decide, by decide, by decide, by decide, by decide, by decide, by decide, by decide, by decide, by decide, by decide, by decide, by decide, by decide, by decide, 40, ns_wX_init_76 post qost hp _ _ _ _ _ _ _ _ _ _ _ 40 _ _ _ _ _ _ _ _ _ h⟩
theorem ns_lawOf (p0 p1 : Int32) (h : nb_law ((p0 &&& 3) - (p0 &&& 3) / 3 * 3) (((p0 >>> ((2 : Int32) &&& 31)) &&& 3) - ((p0 >>> ((2 : Int32) &&& 31)) &&& 3) / 3 * 3) (1 + (p1 &&& 1)) (1 + ((p1 >>> ((1 : Int32) &&& 31)) &&& 1)) = true) : wpL_lawOf (fun r _ => r = 1) 9 4493 () p0 p1 := by
  have hp : ∀ (v0 : Int32) (v1 : St0), (fun (r : Int32) (_ : St0) => decide (r = 1)) v0 v1 = true → (fun (r : Int32) (_ : St0) => r = 1) v0 v1 := fun v0 v1 h => of_decide_eq_true h
  refine ⟨by decide, by decide, 8, 4478, by decide, by decide, ?_⟩
  refine ns_init _ _ (fun u h => ?_) h
  obtain ⟨fm0_count_5, fm0_known_6, fm0_made_7, fm0_done_8, fm0_loopCount_9, fm0_tired_10, fm0_waiting_11, am41_14, am42_17, am43_20, am44_23, am45_26, am46_29, am47_32, am48_35⟩ := u
  refine ⟨by decide, ?_⟩
  refine nm_e ?_
  refine ⟨by decide, ?_⟩
  refine nm_e ?_
  refine nm_e ?_
  refine nm_e ?_
  unfold nb_tail at h
  refine ns_wpX_cell _ _ (fun r_46 u h => ?_) _ _ h
  obtain ⟨fm0_count_47, fm0_known_48, fm0_made_49, fm0_done_50, fm0_loopCount_51, fm0_tired_52, fm0_waiting_53, am411_56, am412_59, am413_62, am414_65, am415_68, am416_71, am417_74, am418_77⟩ := u
  refine ns_wpX_cell _ _ (fun r_78 u h => ?_) _ _ h
  obtain ⟨fm0_count_79, fm0_known_80, fm0_made_81, fm0_done_82, fm0_loopCount_83, fm0_tired_84, fm0_waiting_85, am481_88, am482_91, am483_94, am484_97, am485_100, am486_103, am487_106, am488_109⟩ := u
  refine ns_wpX_join _ _ (fun r_110 u h => ?_) _ _ _ h
  obtain ⟨fm0_count_111, fm0_known_112, fm0_made_113, fm0_done_114, fm0_loopCount_115, fm0_tired_116, fm0_waiting_117, am551_120, am552_123, am553_126, am554_129, am555_132, am556_135, am557_138, am558_141⟩ := u
  refine ns_wpX_join _ _ (fun r_142 u h => ?_) _ _ _ h
  obtain ⟨fm0_count_143, fm0_known_144, fm0_made_145, fm0_done_146, fm0_loopCount_147, fm0_tired_148, fm0_waiting_149, am641_152, am642_155, am643_158, am644_161, am645_164, am646_167, am647_170, am648_173⟩ := u
  refine ns_wpX_join _ _ (fun r_174 u h => ?_) _ _ _ h
  obtain ⟨fm0_count_175, fm0_known_176, fm0_made_177, fm0_done_178, fm0_loopCount_179, fm0_tired_180, fm0_waiting_181, am751_184, am752_187, am753_190, am754_193, am755_196, am756_199, am757_202, am758_205⟩ := u
  refine ns_wpX_steps _ _ (fun r_206 u h => ?_) _ h
  obtain ⟨fm0_count_207, fm0_known_208, fm0_made_209, fm0_done_210, fm0_loopCount_211, fm0_tired_212, fm0_waiting_213, am801_216, am802_219, am803_222, am804_225, am805_228, am806_231, am807_234, am808_237⟩ := u
  refine ns_wpX_left _ _ (fun r_238 u h => ?_) _ _ h
  obtain ⟨fm0_count_239, fm0_known_240, fm0_made_241, fm0_done_242, fm0_loopCount_243, fm0_tired_244, fm0_waiting_245, am871_248, am872_251, am873_254, am874_257, am875_260, am876_263, am877_266, am878_269⟩ := u
  refine ns_wpX_left _ _ (fun r_270 u h => ?_) _ _ h
  obtain ⟨fm0_count_271, fm0_known_272, fm0_made_273, fm0_done_274, fm0_loopCount_275, fm0_tired_276, fm0_waiting_277, am941_280, am942_283, am943_286, am944_289, am945_292, am946_295, am947_298, am948_301⟩ := u
  refine ns_wpX_left _ _ (fun r_302 u h => ?_) _ _ h
  obtain ⟨fm0_count_303, fm0_known_304, fm0_made_305, fm0_done_306, fm0_loopCount_307, fm0_tired_308, fm0_waiting_309, am1011_312, am1012_315, am1013_318, am1014_321, am1015_324, am1016_327, am1017_330, am1018_333⟩ := u
  refine ns_wpX_walk _ _ (fun r_334 u h => ?_) _ _ _ h
  obtain ⟨fm0_count_335, fm0_known_336, fm0_made_337, fm0_done_338, fm0_loopCount_339, fm0_tired_340, fm0_waiting_341, am1091_344, am1092_347, am1093_350, am1094_353, am1095_356, am1096_359, am1097_362, am1098_365⟩ := u
  refine cn_br h (fun h => ?_) (fun h => ?_)
  · exact ns_wL_lawOf_129 _ _ hp _ _ _ _ _ _ _ _ _ _ _ _ _ h
  · refine cn_br h (fun h => ?_) (fun h => ?_)
    · exact ns_wL_lawOf_129 _ _ hp _ _ _ _ _ _ _ _ _ _ _ _ _ h
    · exact ns_wL_lawOf_130 _ _ hp _ _ _ _ _ _ _ _ _ _ _ _ _ _ h
end
section
/-! The 36 cases, run in the kernel. -/
theorem nb_all : ([0, 1, 2].all fun a => [0, 1, 2].all fun b => [1, 2].all fun s => [1, 2].all fun t => nb_law a b s t) = true := by decide +kernel
end
section
/-! The owed statement. -/
theorem cn_mod : ∀ j : Nat, j < 2 ^ 2 → (nI j - nI j / 3 * 3) ∈ [(0 : Int32), 1, 2] := by decide +kernel
theorem cn_one : ∀ j : Nat, j < 2 ^ 1 → (1 + nI j) ∈ [(1 : Int32), 2] := by decide +kernel
theorem cn_m3 (x : Int32) : ((x &&& 3) - (x &&& 3) / 3 * 3) ∈ [(0 : Int32), 1, 2] := by
  obtain ⟨j, hj, e⟩ := pk_andE x (m := 3) 2 (by decide)
  rw [e]
  exact cn_mod j hj
theorem cn_m1 (x : Int32) : (1 + (x &&& 1)) ∈ [(1 : Int32), 2] := by
  obtain ⟨j, hj, e⟩ := pk_andE x (m := 1) 1 (by decide)
  rw [e]
  exact cn_one j hj
theorem cn_any {a b s t : Int32} (ha : a ∈ [(0 : Int32), 1, 2]) (hb : b ∈ [(0 : Int32), 1, 2]) (hs : s ∈ [(1 : Int32), 2]) (ht : t ∈ [(1 : Int32), 2]) : nb_law a b s t = true :=
  List.all_eq_true.mp (List.all_eq_true.mp (List.all_eq_true.mp (List.all_eq_true.mp nb_all a ha) b hb) s hs) t ht
theorem cn_L : ∀ L : Nat, L < 3 → (¬ (Int32.ofNat L ≤ 0) → cn_in 0 L = true) ∧ (¬ (Int32.ofNat L ≤ 1) → cn_in 1 L = true) := by decide +kernel
theorem cn_cell {post : Int32 → Prop} {L : Nat} {xs : Nat → Int32} {p1 : Int32} (hv : ¬ (Int32.ofNat L ≤ p1) → cn_in p1 L = true) (H : ∀ r, post r) : wpL_cellAt post L xs () p1 :=
  ⟨fun _ => H _, fun z => ⟨show ¬ (p1 < 0 ∨ L ≤ p1.toNatClampNeg) from of_decide_eq_true (hv z), H _⟩⟩
theorem i_vc (xs : Nat → Int32) (L : Nat) (hL : L ≤ 2) : wpL_law (fun r => r = 1) L xs :=
  cn_cell (cn_L L (Nat.lt_succ_of_le hL)).1 (fun x => cn_cell (cn_L L (Nat.lt_succ_of_le hL)).2 (fun y =>
    ⟨9, 4493, by decide, by decide, ns_lawOf x y (cn_any (cn_m3 x) (cn_m3 _) (cn_m1 y) (cn_m1 _))⟩))
end
