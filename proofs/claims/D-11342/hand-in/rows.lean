section
/-- a check that can be run: a Bool, and that its 'true' shows P -/
def rq_S (P : Prop) : Type := { b : Bool // b = true → P }
def rq_no (P : Prop) : rq_S P := ⟨false, fun h => absurd h (by decide)⟩
def rq_dec {P : Prop} [Decidable P] : rq_S P := ⟨decide P, of_decide_eq_true⟩
/-- a branch -/
def rq_br {c P Q : Prop} [Decidable c] (A : rq_S P) (B : rq_S Q) : rq_S ((c → P) ∧ (¬ c → Q)) :=
  ⟨if c then A.1 else B.1, fun h => ⟨fun hc => A.2 (by rw [if_pos hc] at h; exact h), fun hc => B.2 (by rw [if_neg hc] at h; exact h)⟩⟩
/-- an index within an array -/
def rq_in {i : Int32} {n : Nat} {P : Prop} (A : rq_S P) : rq_S (vp_in i n ∧ P) :=
  ⟨if i < 0 ∨ n ≤ i.toNatClampNeg then false else A.1, fun h => by
    by_cases hc : i < 0 ∨ n ≤ i.toNatClampNeg
    · rw [if_pos hc] at h
      exact absurd h (by decide)
    · rw [if_neg hc] at h
      exact ⟨hc, A.2 h⟩⟩
/-- a name for a value -/
def rq_nm {α : Type} {e : α} {P : α → Prop} (A : rq_S (P e)) : rq_S (∀ x : α, x = e → P x) :=
  ⟨A.1, fun h x hx => by rw [hx]; exact A.2 h⟩
/-- a loop's fuel -/
def rq_ex {P : Nat → Prop} (n : Nat) (A : rq_S (P n)) : rq_S (∃ k : Nat, P k) := ⟨A.1, fun h => ⟨n, A.2 h⟩⟩
end
section
def rq_isToken_16 {post : Int32 → Prop} (hp : ∀ r, rq_S (post r)) (x0 z0 : Int32) : rq_S (wX_isToken_16 post x0 z0) := by
  delta wX_isToken_16
  refine rq_br ?_ ?_
  · exact hp _
  · refine rq_br ?_ ?_
    · exact hp _
    · refine rq_br ?_ ?_
      · exact hp _
      · refine rq_br ?_ ?_
        · exact hp _
        · exact hp _
def rq_isToken {post : Int32 → Prop} (hp : ∀ r, rq_S (post r)) (u : St0) (p0 : Int32) : rq_S (wpX_isToken post u p0) := by
  delta wpX_isToken
  refine rq_br ?_ ?_
  · exact rq_isToken_16 hp _ _
  · exact rq_isToken_16 hp _ _
def rq_labelsOf {post : Int32 → Prop} (hp : ∀ r, rq_S (post r)) (u : St0) (p0 : Int32) : rq_S (wpX_labelsOf post u p0) := by
  delta wpX_labelsOf
  refine rq_br ?_ ?_
  · exact hp _
  · refine rq_br ?_ ?_
    · exact hp _
    · exact hp _
def rq_missing_4 {post : Int32 → Prop} (hp : ∀ r, rq_S (post r)) (f0 f1 f2 f3 f4 : Int32) (a1 a2 a3 a4 a5 a6 a7 a8 : Nat → Int32) : (n : Nat) → (x1 x2 : Int32) → rq_S (wX_missing_4 post f0 f1 f2 f3 f4 a1 a2 a3 a4 a5 a6 a7 a8 n x1 x2)
  | 0 => fun _ _ => rq_no _
  | n + 1 => fun x1 x2 => by
    refine rq_br ?_ ?_
    · exact hp _
    · refine rq_in ?_
      refine rq_labelsOf ?_ _ _
      rintro _
      refine rq_nm ?_
      refine rq_nm ?_
      exact rq_missing_4 hp f0 f1 f2 f3 f4 a1 a2 a3 a4 a5 a6 a7 a8 n _ _
def rq_missing {post : Int32 → Prop} (hp : ∀ r, rq_S (post r)) : (u : St2) → rq_S (wpX_missing post u ) := by
  rintro ⟨f0, f1, f2, f3, f4, a1, a2, a3, a4, a5, a6, a7, a8⟩ 
  delta wpX_missing
  refine rq_ex 8 ?_
  exact rq_missing_4 hp f0 f1 f2 f3 f4 a1 a2 a3 a4 a5 a6 a7 a8 8 1 0
def rq_complete {post : Int32 → Prop} (hp : ∀ r, rq_S (post r)) : (u : St2) → rq_S (wpX_complete post u ) := by
  rintro ⟨f0, f1, f2, f3, f4, a1, a2, a3, a4, a5, a6, a7, a8⟩ 
  delta wpX_complete
  refine rq_missing ?_ _
  rintro _
  refine rq_br ?_ ?_
  · exact hp _
  · exact hp _
def rq_change {post : St2 → Prop} (hp : ∀ u, rq_S (post u)) : (u : St2) → rq_S (wpX_change post u) := by
  rintro ⟨f0, f1, f2, f3, f4, a1, a2, a3, a4, a5, a6, a7, a8⟩
  delta wpX_change
  exact hp _
def rq_write {post : Int32 → St2 → Prop} (hp : ∀ r u, rq_S (post r u)) : (u : St2) → (p0 : Int32) → rq_S (wpX_write post u p0) := by
  rintro ⟨f0, f1, f2, f3, f4, a1, a2, a3, a4, a5, a6, a7, a8⟩ p0
  delta wpX_write
  refine rq_isToken ?_ _ _
  rintro _
  refine rq_br ?_ ?_
  · exact hp _ _
  · refine rq_complete ?_ _
    rintro _
    refine rq_br ?_ ?_
    · refine rq_br ?_ ?_
      · refine rq_in ?_
        refine rq_nm ?_
        refine rq_nm ?_
        refine rq_change ?_ _
        rintro ⟨f0, f1, f2, f3, f4, a1, a2, a3, a4, a5, a6, a7, a8⟩
        exact hp _ _
      · exact hp _ _
    · exact hp _ _
def rq_isRole {post : Int32 → Prop} (hp : ∀ r, rq_S (post r)) (u : St0) (p0 : Int32) : rq_S (wpX_isRole post u p0) := by
  delta wpX_isRole
  refine rq_br ?_ ?_
  · exact hp _
  · refine rq_br ?_ ?_
    · exact hp _
    · exact hp _
def rq_senderOf {post : Int32 → Prop} (hp : ∀ r, rq_S (post r)) (u : St0) (p0 : Int32) : rq_S (wpX_senderOf post u p0) := by
  delta wpX_senderOf
  refine rq_br ?_ ?_
  · exact hp _
  · exact hp _
def rq_receiverOf {post : Int32 → Prop} (hp : ∀ r, rq_S (post r)) (u : St0) (p0 : Int32) : rq_S (wpX_receiverOf post u p0) := by
  delta wpX_receiverOf
  refine rq_br ?_ ?_
  · exact hp _
  · exact hp _
def rq_partFor_39 {post : Int32 → St2 → Prop} (hp : ∀ r u, rq_S (post r u)) {J3 : Int32 → Prop} (hJ : ∀ x, rq_S (J3 x)) (x1 x2 x3 x4 x5 z0 : Int32) (f0 f1 f2 f3 f4 : Int32) (a1 a2 a3 a4 a5 a6 a7 a8 : Nat → Int32) : rq_S (wX_partFor_39 post J3 x1 x2 x3 x4 x5 z0 f0 f1 f2 f3 f4 a1 a2 a3 a4 a5 a6 a7 a8) := by
  delta wX_partFor_39
  refine rq_br ?_ ?_
  · refine rq_nm ?_
    exact hJ _
  · refine rq_in ?_
    refine rq_br ?_ ?_
    · refine rq_in ?_
      refine rq_br ?_ ?_
      · exact hp _ _
      · refine rq_nm ?_
        exact hJ _
    · refine rq_nm ?_
      exact hJ _
def rq_partFor_38 {post : Int32 → St2 → Prop} (hp : ∀ r u, rq_S (post r u)) {J3 : Int32 → Prop} (hJ : ∀ x, rq_S (J3 x)) (x1 x2 x3 x4 x5 : Int32) (f0 f1 f2 f3 f4 : Int32) (a1 a2 a3 a4 a5 a6 a7 a8 : Nat → Int32) : rq_S (wX_partFor_38 post J3 x1 x2 x3 x4 x5 f0 f1 f2 f3 f4 a1 a2 a3 a4 a5 a6 a7 a8) := by
  delta wX_partFor_38
  exact rq_partFor_39 hp hJ x1 x2 x3 x4 x5 0 f0 f1 f2 f3 f4 a1 a2 a3 a4 a5 a6 a7 a8
def rq_partFor_3 {post : Int32 → St2 → Prop} (hp : ∀ r u, rq_S (post r u)) (x1 x2 x3 x4 : Int32) (f0 f1 f2 f3 f4 : Int32) (a1 a2 a3 a4 a5 a6 a7 a8 : Nat → Int32) : (n : Nat) → (x5 : Int32) → rq_S (wX_partFor_3 post x1 x2 x3 x4 f0 f1 f2 f3 f4 a1 a2 a3 a4 a5 a6 a7 a8 n x5)
  | 0 => fun _ => rq_no _
  | n + 1 => fun x5 => by
    refine rq_br ?_ ?_
    · refine rq_in ?_
      refine rq_nm ?_
      refine rq_in ?_
      refine rq_nm ?_
      refine rq_in ?_
      refine rq_nm ?_
      refine rq_in ?_
      refine rq_nm ?_
      refine rq_in ?_
      refine rq_in ?_
      refine rq_in ?_
      refine rq_nm ?_
      refine rq_nm ?_
      exact hp _ _
    · refine rq_in ?_
      refine rq_br ?_ ?_
      · refine rq_in ?_
        refine rq_br ?_ ?_
        · exact rq_partFor_39 hp (rq_partFor_3 hp x1 x2 x3 x4 f0 f1 f2 f3 f4 a1 a2 a3 a4 a5 a6 a7 a8 n) x1 x2 x3 x4 x5 1 f0 f1 f2 f3 f4 a1 a2 a3 a4 a5 a6 a7 a8
        · exact rq_partFor_38 hp (rq_partFor_3 hp x1 x2 x3 x4 f0 f1 f2 f3 f4 a1 a2 a3 a4 a5 a6 a7 a8 n) x1 x2 x3 x4 x5 f0 f1 f2 f3 f4 a1 a2 a3 a4 a5 a6 a7 a8
      · exact rq_partFor_38 hp (rq_partFor_3 hp x1 x2 x3 x4 f0 f1 f2 f3 f4 a1 a2 a3 a4 a5 a6 a7 a8 n) x1 x2 x3 x4 x5 f0 f1 f2 f3 f4 a1 a2 a3 a4 a5 a6 a7 a8
def rq_partFor {post : Int32 → St2 → Prop} (hp : ∀ r u, rq_S (post r u)) : (u : St2) → (p0 p1 p2 p3 : Int32) → rq_S (wpX_partFor post u p0 p1 p2 p3) := by
  rintro ⟨f0, f1, f2, f3, f4, a1, a2, a3, a4, a5, a6, a7, a8⟩ p0 p1 p2 p3
  delta wpX_partFor
  refine rq_ex 12 ?_
  exact rq_partFor_3 hp p0 p1 p2 p3 f0 f1 f2 f3 f4 a1 a2 a3 a4 a5 a6 a7 a8 12 1
def rq_project_50 {post : Int32 → St2 → Prop} (hp : ∀ r u, rq_S (post r u)) (x1 x2 x3 x4 z0 : Int32) (f0 f1 f2 f3 f4 : Int32) (a1 a2 a3 a4 a5 a6 a7 a8 : Nat → Int32) : rq_S (wX_project_50 post x1 x2 x3 x4 z0 f0 f1 f2 f3 f4 a1 a2 a3 a4 a5 a6 a7 a8) := by
  delta wX_project_50
  refine rq_br ?_ ?_
  · exact hp _ _
  · refine rq_br ?_ ?_
    · exact hp _ _
    · refine rq_in ?_
      refine rq_senderOf ?_ _ _
      rintro _
      refine rq_in ?_
      refine rq_receiverOf ?_ _ _
      rintro _
      refine rq_br ?_ ?_
      · refine rq_partFor ?_ _ _ _ _ _
        rintro _ ⟨f0, f1, f2, f3, f4, a1, a2, a3, a4, a5, a6, a7, a8⟩
        exact hp _ _
      · refine rq_br ?_ ?_
        · refine rq_partFor ?_ _ _ _ _ _
          rintro _ ⟨f0, f1, f2, f3, f4, a1, a2, a3, a4, a5, a6, a7, a8⟩
          exact hp _ _
        · refine rq_br ?_ ?_
          · exact hp _ _
          · refine rq_br ?_ ?_
            · exact hp _ _
            · exact hp _ _
def rq_project {post : Int32 → St2 → Prop} (hp : ∀ r u, rq_S (post r u)) : (u : St2) → (p0 p1 p2 : Int32) → rq_S (wpX_project post u p0 p1 p2) := by
  rintro ⟨f0, f1, f2, f3, f4, a1, a2, a3, a4, a5, a6, a7, a8⟩ p0 p1 p2
  delta wpX_project
  refine rq_br ?_ ?_
  · exact hp _ _
  · refine rq_in ?_
    refine rq_nm ?_
    refine rq_br ?_ ?_
    · exact rq_project_50 hp _ _ _ _ _ f0 f1 f2 f3 f4 a1 a2 a3 a4 a5 a6 a7 a8
    · refine rq_in ?_
      refine rq_in ?_
      exact rq_project_50 hp _ _ _ _ _ f0 f1 f2 f3 f4 a1 a2 a3 a4 a5 a6 a7 a8
def rq_learn_103 {post : Int32 → St2 → Prop} {J35 : Int32 → Int32 → Int32 → Int32 → Int32 → Int32 → (Nat → Int32) → (Nat → Int32) → (Nat → Int32) → (Nat → Int32) → (Nat → Int32) → (Nat → Int32) → (Nat → Int32) → (Nat → Int32) → Prop} (hJ : ∀ (x f0 f1 f2 f3 f4 : Int32) (a1 a2 a3 a4 a5 a6 a7 a8 : Nat → Int32), rq_S (J35 x f0 f1 f2 f3 f4 a1 a2 a3 a4 a5 a6 a7 a8)) (x1 x2 : Int32) : (n : Nat) → (x5 f0 f1 f2 f3 f4 : Int32) → (a1 a2 a3 a4 a5 a6 a7 a8 : Nat → Int32) → rq_S (wX_learn_103 post J35 x1 x2 n x5 f0 f1 f2 f3 f4 a1 a2 a3 a4 a5 a6 a7 a8)
  | 0 => fun _ _ _ _ _ _ _ _ _ _ _ _ _ _ => rq_no _
  | n + 1 => fun x5 f0 f1 f2 f3 f4 a1 a2 a3 a4 a5 a6 a7 a8 => by
    refine rq_br ?_ ?_
    · refine rq_nm ?_
      exact hJ _ _ _ _ _ _ _ _ _ _ _ _ _ _
    · refine rq_project ?_ _ _ _ _
      rintro _ ⟨f0, f1, f2, f3, f4, a1, a2, a3, a4, a5, a6, a7, a8⟩
      refine rq_in ?_
      refine rq_nm ?_
      refine rq_nm ?_
      exact rq_learn_103 hJ x1 x2 n _ _ _ _ _ _ _ _ _ _ _ _ _ _
def rq_learn_85 {post : Int32 → St2 → Prop} {J35 : Int32 → Int32 → Int32 → Int32 → Int32 → Int32 → (Nat → Int32) → (Nat → Int32) → (Nat → Int32) → (Nat → Int32) → (Nat → Int32) → (Nat → Int32) → (Nat → Int32) → (Nat → Int32) → Prop} (hJ : ∀ (x f0 f1 f2 f3 f4 : Int32) (a1 a2 a3 a4 a5 a6 a7 a8 : Nat → Int32), rq_S (J35 x f0 f1 f2 f3 f4 a1 a2 a3 a4 a5 a6 a7 a8)) (x1 x2 x3 z0 : Int32) (f0 f1 f2 f3 f4 : Int32) (a1 a2 a3 a4 a5 a6 a7 a8 : Nat → Int32) : rq_S (wX_learn_85 post J35 x1 x2 x3 z0 f0 f1 f2 f3 f4 a1 a2 a3 a4 a5 a6 a7 a8) := by
  delta wX_learn_85
  refine rq_in ?_
  refine rq_nm ?_
  refine rq_ex 5 ?_
  exact rq_learn_103 hJ x1 x2 5 _ _ _ _ _ _ _ _ _ _ _ _ _ _
def rq_learn_65 {post : Int32 → St2 → Prop} {J35 : Int32 → Int32 → Int32 → Int32 → Int32 → Int32 → (Nat → Int32) → (Nat → Int32) → (Nat → Int32) → (Nat → Int32) → (Nat → Int32) → (Nat → Int32) → (Nat → Int32) → (Nat → Int32) → Prop} (hJ : ∀ (x f0 f1 f2 f3 f4 : Int32) (a1 a2 a3 a4 a5 a6 a7 a8 : Nat → Int32), rq_S (J35 x f0 f1 f2 f3 f4 a1 a2 a3 a4 a5 a6 a7 a8)) (x1 x2 z0 : Int32) (f0 f1 f2 f3 f4 : Int32) (a1 a2 a3 a4 a5 a6 a7 a8 : Nat → Int32) : rq_S (wX_learn_65 post J35 x1 x2 z0 f0 f1 f2 f3 f4 a1 a2 a3 a4 a5 a6 a7 a8) := by
  delta wX_learn_65
  refine rq_br ?_ ?_
  · exact rq_learn_85 hJ x1 x2 z0 _ f0 f1 f2 f3 f4 a1 a2 a3 a4 a5 a6 a7 a8
  · refine rq_in ?_
    exact rq_learn_85 hJ x1 x2 z0 _ f0 f1 f2 f3 f4 a1 a2 a3 a4 a5 a6 a7 a8
def rq_learn_35 {post : Int32 → St2 → Prop} (hp : ∀ r u, rq_S (post r u)) : (n : Nat) → (x1 f0 f1 f2 f3 f4 : Int32) → (a1 a2 a3 a4 a5 a6 a7 a8 : Nat → Int32) → rq_S (wX_learn_35 post n x1 f0 f1 f2 f3 f4 a1 a2 a3 a4 a5 a6 a7 a8)
  | 0 => fun _ _ _ _ _ _ _ _ _ _ _ _ _ _ => rq_no _
  | n + 1 => fun x1 f0 f1 f2 f3 f4 a1 a2 a3 a4 a5 a6 a7 a8 => by
    refine rq_br ?_ ?_
    · exact hp _ _
    · refine rq_in ?_
      refine rq_labelsOf ?_ _ _
      rintro _
      refine rq_br ?_ ?_
      · exact rq_learn_65 (rq_learn_35 hp n) _ _ _ f0 f1 f2 f3 f4 a1 a2 a3 a4 a5 a6 a7 a8
      · refine rq_in ?_
        exact rq_learn_65 (rq_learn_35 hp n) _ _ _ f0 f1 f2 f3 f4 a1 a2 a3 a4 a5 a6 a7 a8
def rq_learn {post : Int32 → St2 → Prop} (hp : ∀ r u, rq_S (post r u)) : (u : St2) → rq_S (wpX_learn post u ) := by
  rintro ⟨f0, f1, f2, f3, f4, a1, a2, a3, a4, a5, a6, a7, a8⟩ 
  delta wpX_learn
  refine rq_complete ?_ _
  rintro _
  refine rq_br ?_ ?_
  · exact hp _ _
  · refine rq_br ?_ ?_
    · refine rq_nm ?_
      refine rq_ex 6 ?_
      exact rq_learn_35 hp 6 _ _ _ _ _ _ _ _ _ _ _ _ _ _
    · exact hp _ _
def rq_fixed {post : Int32 → St2 → Prop} (hp : ∀ r u, rq_S (post r u)) : (u : St2) → (p0 : Int32) → rq_S (wpX_fixed post u p0) := by
  rintro ⟨f0, f1, f2, f3, f4, a1, a2, a3, a4, a5, a6, a7, a8⟩ p0
  delta wpX_fixed
  refine rq_isRole ?_ _ _
  rintro _
  refine rq_br ?_ ?_
  · exact hp _ _
  · refine rq_learn ?_ _
    rintro _ ⟨f0, f1, f2, f3, f4, a1, a2, a3, a4, a5, a6, a7, a8⟩
    refine rq_br ?_ ?_
    · exact hp _ _
    · refine rq_in ?_
      refine rq_br ?_ ?_
      · exact hp _ _
      · exact hp _ _
def rq_size {post : Int32 → St2 → Prop} (hp : ∀ r u, rq_S (post r u)) : (u : St2) → (p0 : Int32) → rq_S (wpX_size post u p0) := by
  rintro ⟨f0, f1, f2, f3, f4, a1, a2, a3, a4, a5, a6, a7, a8⟩ p0
  delta wpX_size
  refine rq_fixed ?_ _ _
  rintro _ ⟨f0, f1, f2, f3, f4, a1, a2, a3, a4, a5, a6, a7, a8⟩
  refine rq_br ?_ ?_
  · exact hp _ _
  · refine rq_in ?_
    refine rq_in ?_
    exact hp _ _
def rq_fit {post : Int32 → St2 → Prop} (hp : ∀ r u, rq_S (post r u)) : (u : St2) → rq_S (wpX_fit post u ) := by
  rintro ⟨f0, f1, f2, f3, f4, a1, a2, a3, a4, a5, a6, a7, a8⟩ 
  delta wpX_fit
  refine rq_fixed ?_ _ _
  rintro _ ⟨f0, f1, f2, f3, f4, a1, a2, a3, a4, a5, a6, a7, a8⟩
  refine rq_br ?_ ?_
  · exact hp _ _
  · refine rq_fixed ?_ _ _
    rintro _ ⟨f0, f1, f2, f3, f4, a1, a2, a3, a4, a5, a6, a7, a8⟩
    refine rq_br ?_ ?_
    · exact hp _ _
    · refine rq_fixed ?_ _ _
      rintro _ ⟨f0, f1, f2, f3, f4, a1, a2, a3, a4, a5, a6, a7, a8⟩
      refine rq_br ?_ ?_
      · exact hp _ _
      · refine rq_fixed ?_ _ _
        rintro _ ⟨f0, f1, f2, f3, f4, a1, a2, a3, a4, a5, a6, a7, a8⟩
        refine rq_br ?_ ?_
        · exact hp _ _
        · exact hp _ _
def rq_start_21 {post : Int32 → St2 → Prop} (hp : ∀ r u, rq_S (post r u)) (f0 f1 f2 f3 f4 : Int32) : (n : Nat) → (x1 : Int32) → (a1 a2 a3 a4 a5 a6 a7 a8 : Nat → Int32) → rq_S (wX_start_21 post f0 f1 f2 f3 f4 n x1 a1 a2 a3 a4 a5 a6 a7 a8)
  | 0 => fun _ _ _ _ _ _ _ _ _ => rq_no _
  | n + 1 => fun x1 a1 a2 a3 a4 a5 a6 a7 a8 => by
    refine rq_br ?_ ?_
    · exact hp _ _
    · refine rq_in ?_
      refine rq_in ?_
      refine rq_nm ?_
      refine rq_nm ?_
      exact rq_start_21 hp f0 f1 f2 f3 f4 n _ _ _ _ _ _ _ _ _
def rq_start {post : Int32 → St2 → Prop} (hp : ∀ r u, rq_S (post r u)) : (u : St2) → rq_S (wpX_start post u ) := by
  rintro ⟨f0, f1, f2, f3, f4, a1, a2, a3, a4, a5, a6, a7, a8⟩ 
  delta wpX_start
  refine rq_fit ?_ _
  rintro _ ⟨f0, f1, f2, f3, f4, a1, a2, a3, a4, a5, a6, a7, a8⟩
  refine rq_br ?_ ?_
  · exact hp _ _
  · refine rq_ex 5 ?_
    exact rq_start_21 hp _ _ _ _ _ 5 _ _ _ _ _ _ _ _ _
def rq_possible_84 {post : Int32 → Prop} (hp : ∀ r, rq_S (post r)) (x3 x4 x5 z0 : Int32) (f0 f1 f2 f3 f4 : Int32) (a1 a2 a3 a4 a5 a6 a7 a8 : Nat → Int32) : rq_S (wX_possible_84 post x3 x4 x5 z0 f0 f1 f2 f3 f4 a1 a2 a3 a4 a5 a6 a7 a8) := by
  delta wX_possible_84
  refine rq_br ?_ ?_
  · exact hp _
  · refine rq_in ?_
    refine rq_br ?_ ?_
    · exact hp _
    · refine rq_in ?_
      refine rq_br ?_ ?_
      · exact hp _
      · exact hp _
def rq_possible_83 {post : Int32 → Prop} (hp : ∀ r, rq_S (post r)) (x3 x4 x5 : Int32) (f0 f1 f2 f3 f4 : Int32) (a1 a2 a3 a4 a5 a6 a7 a8 : Nat → Int32) : rq_S (wX_possible_83 post x3 x4 x5 f0 f1 f2 f3 f4 a1 a2 a3 a4 a5 a6 a7 a8) := by
  delta wX_possible_83
  exact rq_possible_84 hp x3 x4 x5 0 f0 f1 f2 f3 f4 a1 a2 a3 a4 a5 a6 a7 a8
def rq_possible {post : Int32 → Prop} (hp : ∀ r, rq_S (post r)) : (u : St2) → (p0 p1 p2 : Int32) → rq_S (wpX_possible post u p0 p1 p2) := by
  rintro ⟨f0, f1, f2, f3, f4, a1, a2, a3, a4, a5, a6, a7, a8⟩ p0 p1 p2
  delta wpX_possible
  refine rq_br ?_ ?_
  · exact hp _
  · refine rq_isRole ?_ _ _
    rintro _
    refine rq_br ?_ ?_
    · exact hp _
    · refine rq_isRole ?_ _ _
      rintro _
      refine rq_br ?_ ?_
      · exact hp _
      · refine rq_br ?_ ?_
        · refine rq_in ?_
          refine rq_nm ?_
          refine rq_in ?_
          refine rq_nm ?_
          refine rq_br ?_ ?_
          · exact rq_possible_83 hp _ _ _ f0 f1 f2 f3 f4 a1 a2 a3 a4 a5 a6 a7 a8
          · refine rq_in ?_
            refine rq_br ?_ ?_
            · refine rq_br ?_ ?_
              · exact rq_possible_83 hp _ _ _ f0 f1 f2 f3 f4 a1 a2 a3 a4 a5 a6 a7 a8
              · refine rq_in ?_
                refine rq_br ?_ ?_
                · exact rq_possible_84 hp _ _ _ _ f0 f1 f2 f3 f4 a1 a2 a3 a4 a5 a6 a7 a8
                · exact rq_possible_83 hp _ _ _ f0 f1 f2 f3 f4 a1 a2 a3 a4 a5 a6 a7 a8
            · exact rq_possible_83 hp _ _ _ f0 f1 f2 f3 f4 a1 a2 a3 a4 a5 a6 a7 a8
        · exact hp _
def rq_choices_32 {post : Int32 → Prop} {J4 J11 : Int32 → Int32 → Prop} (hJ : ∀ x y, rq_S (J11 x y)) (x2 x3 z0 z1 : Int32) (f0 f1 f2 f3 f4 : Int32) (a1 a2 a3 a4 a5 a6 a7 a8 : Nat → Int32) : rq_S (wX_choices_32 post J4 J11 x2 x3 z0 z1 f0 f1 f2 f3 f4 a1 a2 a3 a4 a5 a6 a7 a8) := by
  delta wX_choices_32
  refine rq_nm ?_
  refine rq_possible ?_ _ _ _ _
  rintro _
  refine rq_br ?_ ?_
  · refine rq_nm ?_
    refine rq_nm ?_
    exact hJ _ _
  · refine rq_nm ?_
    refine rq_nm ?_
    exact hJ _ _
def rq_choices_11 {post : Int32 → Prop} {J4 : Int32 → Int32 → Prop} (hJ : ∀ x y, rq_S (J4 x y)) (x2 : Int32) (f0 f1 f2 f3 f4 : Int32) (a1 a2 a3 a4 a5 a6 a7 a8 : Nat → Int32) : (n : Nat) → (x1 x3 : Int32) → rq_S (wX_choices_11 post J4 x2 f0 f1 f2 f3 f4 a1 a2 a3 a4 a5 a6 a7 a8 n x1 x3)
  | 0 => fun _ _ => rq_no _
  | n + 1 => fun x1 x3 => by
    refine rq_br ?_ ?_
    · refine rq_nm ?_
      exact hJ _ _
    · refine rq_possible ?_ _ _ _ _
      rintro _
      refine rq_br ?_ ?_
      · exact rq_choices_32 (rq_choices_11 hJ x2 f0 f1 f2 f3 f4 a1 a2 a3 a4 a5 a6 a7 a8 n) _ _ _ _ f0 f1 f2 f3 f4 a1 a2 a3 a4 a5 a6 a7 a8
      · exact rq_choices_32 (rq_choices_11 hJ x2 f0 f1 f2 f3 f4 a1 a2 a3 a4 a5 a6 a7 a8 n) _ _ _ _ f0 f1 f2 f3 f4 a1 a2 a3 a4 a5 a6 a7 a8
def rq_choices_4 {post : Int32 → Prop} (hp : ∀ r, rq_S (post r)) (f0 f1 f2 f3 f4 : Int32) (a1 a2 a3 a4 a5 a6 a7 a8 : Nat → Int32) : (n : Nat) → (x1 x2 : Int32) → rq_S (wX_choices_4 post f0 f1 f2 f3 f4 a1 a2 a3 a4 a5 a6 a7 a8 n x1 x2)
  | 0 => fun _ _ => rq_no _
  | n + 1 => fun x1 x2 => by
    refine rq_br ?_ ?_
    · exact hp _
    · refine rq_ex 5 ?_
      exact rq_choices_11 (rq_choices_4 hp f0 f1 f2 f3 f4 a1 a2 a3 a4 a5 a6 a7 a8 n) _ f0 f1 f2 f3 f4 a1 a2 a3 a4 a5 a6 a7 a8 5 _ _
def rq_choices {post : Int32 → Prop} (hp : ∀ r, rq_S (post r)) : (u : St2) → rq_S (wpX_choices post u ) := by
  rintro ⟨f0, f1, f2, f3, f4, a1, a2, a3, a4, a5, a6, a7, a8⟩ 
  delta wpX_choices
  refine rq_ex 5 ?_
  exact rq_choices_4 hp f0 f1 f2 f3 f4 a1 a2 a3 a4 a5 a6 a7 a8 5 _ _
end
section
def rq_307 {post : Int32 → St0 → Prop} (hp : ∀ r u, rq_S (post r u)) (mc ms : Nat) (z0 z1 : Int32) (kc ks : Nat) : rq_S (wL_lawOf_307 post mc ms z0 z1 kc ks) := by
  delta wL_lawOf_307
  refine rq_br ?_ ?_
  · exact hp _ _
  · exact hp _ _
def rq_276 {post : Int32 → St0 → Prop} (hp : ∀ r u, rq_S (post r u)) (mc ms : Nat) (x9 x16 x17 x18 z0 z1 : Int32) (kc ks : Nat) : rq_S (wL_lawOf_276 post mc ms x9 x16 x17 x18 z0 z1 kc ks) := by
  delta wL_lawOf_276
  refine rq_br ?_ ?_
  · refine rq_br ?_ ?_
    · refine rq_br ?_ ?_
      · exact rq_307 hp _ _ _ _ _ _
      · refine rq_br ?_ ?_
        · exact rq_307 hp _ _ _ _ _ _
        · exact rq_307 hp _ _ _ _ _ _
    · exact hp _ _
  · exact hp _ _
def rq_252 {post : Int32 → St0 → Prop} (hp : ∀ r u, rq_S (post r u)) (mc ms : Nat) (x7 x9 x15 x16 x17 x18 z0 z1 : Int32) (kc ks : Nat) : rq_S (wL_lawOf_252 post mc ms x7 x9 x15 x16 x17 x18 z0 z1 kc ks) := by
  delta wL_lawOf_252
  refine rq_br ?_ ?_
  · refine rq_br ?_ ?_
    · refine rq_br ?_ ?_
      · exact rq_276 hp _ _ _ _ _ _ _ _ _ _
      · exact rq_276 hp _ _ _ _ _ _ _ _ _ _
    · exact rq_276 hp _ _ _ _ _ _ _ _ _ _
  · exact hp _ _
def rq_247 {post : Int32 → St0 → Prop} (hp : ∀ r u, rq_S (post r u)) (mc ms : Nat) (x7 x9 x15 x16 x17 x18 z0 : Int32) (kc ks : Nat) : rq_S (wL_lawOf_247 post mc ms x7 x9 x15 x16 x17 x18 z0 kc ks) := by
  delta wL_lawOf_247
  exact rq_252 hp _ _ _ _ _ _ _ _ _ _ _ _
def rq_224 {post : Int32 → St0 → Prop} (hp : ∀ r u, rq_S (post r u)) (mc ms : Nat) (x7 x9 x13 x14 x15 x16 x17 x18 z0 z1 : Int32) (kc ks : Nat) : rq_S (wL_lawOf_224 post mc ms x7 x9 x13 x14 x15 x16 x17 x18 z0 z1 kc ks) := by
  delta wL_lawOf_224
  refine rq_br ?_ ?_
  · refine rq_br ?_ ?_
    · refine rq_br ?_ ?_
      · refine rq_br ?_ ?_
        · exact rq_252 hp _ _ _ _ _ _ _ _ _ _ _ _
        · exact rq_247 hp _ _ _ _ _ _ _ _ _ _ _
      · exact rq_247 hp _ _ _ _ _ _ _ _ _ _ _
    · exact hp _ _
  · exact hp _ _
def rq_209 {post : Int32 → St0 → Prop} (hp : ∀ r u, rq_S (post r u)) (mc ms : Nat) (x7 x9 x11 x13 x14 x15 x16 x17 x18 z0 z1 : Int32) (kc ks : Nat) : rq_S (wL_lawOf_209 post mc ms x7 x9 x11 x13 x14 x15 x16 x17 x18 z0 z1 kc ks) := by
  delta wL_lawOf_209
  refine rq_br ?_ ?_
  · refine rq_br ?_ ?_
    · exact rq_224 hp _ _ _ _ _ _ _ _ _ _ _ _ _ _
    · exact rq_224 hp _ _ _ _ _ _ _ _ _ _ _ _ _ _
  · exact hp _ _
def rq_195 {post : Int32 → St0 → Prop} (hp : ∀ r u, rq_S (post r u)) (mc ms : Nat) (x7 x9 x11 x12 x13 x14 x15 x16 x17 z0 : Int32) (kc ks : Nat) : rq_S (wL_lawOf_195 post mc ms x7 x9 x11 x12 x13 x14 x15 x16 x17 z0 kc ks) := by
  delta wL_lawOf_195
  refine rq_br ?_ ?_
  · exact rq_209 hp _ _ _ _ _ _ _ _ _ _ _ _ _ _ _
  · exact rq_209 hp _ _ _ _ _ _ _ _ _ _ _ _ _ _ _
def rq_194 {post : Int32 → St0 → Prop} (hp : ∀ r u, rq_S (post r u)) (mc ms : Nat) (x7 x9 x11 x12 x13 x14 x15 x16 x17 : Int32) (kc ks : Nat) : rq_S (wL_lawOf_194 post mc ms x7 x9 x11 x12 x13 x14 x15 x16 x17 kc ks) := by
  delta wL_lawOf_194
  exact rq_195 hp _ _ _ _ _ _ _ _ _ _ _ _ _ _
def rq_134 {post : Int32 → St0 → Prop} (hp : ∀ r u, rq_S (post r u)) (mc ms : Nat) (x4 x6 x7 x8 x9 z0 : Int32) (kc ks : Nat) (f0 f1 f2 f3 f4 : Int32) (a1 a2 a3 a4 a5 a6 a7 a8 : Nat → Int32) : rq_S (wL_lawOf_134 post mc ms x4 x6 x7 x8 x9 z0 kc ks f0 f1 f2 f3 f4 a1 a2 a3 a4 a5 a6 a7 a8) := by
  delta wL_lawOf_134
  refine rq_write ?_ _ _
  rintro _ ⟨f0, f1, f2, f3, f4, a1, a2, a3, a4, a5, a6, a7, a8⟩
  refine rq_fixed ?_ _ _
  rintro _ ⟨f0, f1, f2, f3, f4, a1, a2, a3, a4, a5, a6, a7, a8⟩
  refine rq_fixed ?_ _ _
  rintro _ ⟨f0, f1, f2, f3, f4, a1, a2, a3, a4, a5, a6, a7, a8⟩
  refine rq_size ?_ _ _
  rintro _ ⟨f0, f1, f2, f3, f4, a1, a2, a3, a4, a5, a6, a7, a8⟩
  refine rq_start ?_ _
  rintro _ ⟨f0, f1, f2, f3, f4, a1, a2, a3, a4, a5, a6, a7, a8⟩
  refine rq_choices ?_ _
  rintro _
  refine rq_br ?_ ?_
  · exact rq_194 hp _ _ _ _ _ _ _ _ _ _ _ _ _
  · refine rq_br ?_ ?_
    · exact rq_195 hp _ _ _ _ _ _ _ _ _ _ _ _ _ _
    · exact rq_194 hp _ _ _ _ _ _ _ _ _ _ _ _ _
def rq_78 {post : Int32 → St0 → Prop} (hp : ∀ r u, rq_S (post r u)) (mc ms : Nat) (x4 x5 x6 x7 x8 z0 : Int32) (kc ks : Nat) (f0 f1 f2 f3 f4 : Int32) (a1 a2 a3 a4 a5 a6 a7 a8 : Nat → Int32) : rq_S (wL_lawOf_78 post mc ms x4 x5 x6 x7 x8 z0 kc ks f0 f1 f2 f3 f4 a1 a2 a3 a4 a5 a6 a7 a8) := by
  delta wL_lawOf_78
  refine rq_nm ?_
  refine rq_write ?_ _ _
  rintro _ ⟨f0, f1, f2, f3, f4, a1, a2, a3, a4, a5, a6, a7, a8⟩
  refine rq_write ?_ _ _
  rintro _ ⟨f0, f1, f2, f3, f4, a1, a2, a3, a4, a5, a6, a7, a8⟩
  refine rq_write ?_ _ _
  rintro _ ⟨f0, f1, f2, f3, f4, a1, a2, a3, a4, a5, a6, a7, a8⟩
  refine rq_br ?_ ?_
  · exact rq_134 hp _ _ _ _ _ _ _ _ _ _ _ _ _ _ _ _ _ _ _ _ _ _ _
  · refine rq_write ?_ _ _
    rintro _ ⟨f0, f1, f2, f3, f4, a1, a2, a3, a4, a5, a6, a7, a8⟩
    exact rq_134 hp _ _ _ _ _ _ _ _ _ _ _ _ _ _ _ _ _ _ _ _ _ _ _
end
section
/-- the receiver of the second message: role a, its next, or its last but one -/
def rq_d (a t : Nat) : Int32 := if t = 0 then nI a else if t = 1 then (nI a + 1) &&& 3 else (nI a + 3) &&& 3
/-- the law's body at one of the 24 cases -/
def rq_P (a t z : Nat) : Prop :=
  wL_lawOf_78 (fun r _ => r = 1) 90 1440 (nI a) ((nI a + 1) &&& 3) ((nI a + 2) &&& 3) (nI t) (rq_d a t) (nI z) (1 + 8) (13 + 370) 0 0 0 0 0 (fun _ => 0) (fun _ => 0) (fun _ => 0) (fun _ => 0) (fun _ => 0) (fun _ => 0) (fun _ => 0) (fun _ => 0)
def rq_run (a t z : Nat) : rq_S (rq_P a t z) :=
  rq_78 (post := fun r _ => r = 1) (fun _ _ => rq_dec) 90 1440 (nI a) ((nI a + 1) &&& 3) ((nI a + 2) &&& 3) (nI t) (rq_d a t) (nI z) (1 + 8) (13 + 370) 0 0 0 0 0 (fun _ => 0) (fun _ => 0) (fun _ => 0) (fun _ => 0) (fun _ => 0) (fun _ => 0) (fun _ => 0) (fun _ => 0)
theorem rq_24 : ∀ a, a < 4 → ∀ t, t < 3 → ∀ z, z < 2 → (rq_run a t z).1 = true := by decide +kernel
end
section
theorem rq_cell (post : Int32 → Prop) (h : ∀ r, post r) (xs : Nat → Int32) (L : Nat) (hL : L ≤ 3) (k : Nat) (hk : k < 3) : wpL_cellAt post L xs () (nI k) :=
  pk_le L k (fun _ => h _) (fun z => ⟨pk_in k L z, h _⟩)
theorem rq_64 (a t : Nat) (ha : a < 4) (ht : t < 3) (p2 d : Int32) (hd : d = rq_d a t) :
    wL_lawOf_64 (fun r _ => r = 1) 90 1440 p2 (nI a) ((nI a + 1) &&& 3) ((nI a + 2) &&& 3) (nI t) d (1 + 8) (13 + 370) 0 0 0 0 0 (fun _ => 0) (fun _ => 0) (fun _ => 0) (fun _ => 0) (fun _ => 0) (fun _ => 0) (fun _ => 0) (fun _ => 0) := by
  have W : ∀ z, z < 2 → rq_P a t z := fun z hz => (rq_run a t z).2 (rq_24 a ha t ht z hz)
  unfold rq_P at W
  rw [← hd] at W
  exact ⟨fun _ => W 1 (by decide), fun _ => W 0 (by decide)⟩
theorem rq_lawOf (p0 p1 p2 : Int32) : wpL_lawOf (fun r _ => r = 1) 90 1440 () p0 p1 p2 := by
  obtain ⟨a, ha, ea⟩ := pk_andE p0 (m := 3) 2 (by decide)
  obtain ⟨b, hb, eb⟩ := pk_andE p1 (m := 65535) 16 (by decide)
  have er : nI b - nI b / 3 * 3 = nI (b % 3) := pk_rem (d := 3) (by omega) (by decide) (by decide)
  have ha' : a < 4 := ha
  have ht : b % 3 < 3 := by omega
  refine ⟨by decide, by decide, 8, 370, by decide, by decide, ?_⟩
  unfold wpX_init
  refine ⟨by decide, by decide, by decide, by decide, by decide, by decide, by decide, by decide, by decide, by decide, by decide, by decide, by decide, by decide, by decide, by decide, ?_⟩
  refine nm_r ea (nm_e (nm_e ⟨by decide, ?_⟩))
  rw [eb]
  refine nm_r er ?_
  generalize b % 3 = t at ht
  have h3 : t = 0 ∨ t = 1 ∨ t = 2 := by omega
  rcases h3 with rfl | rfl | rfl
  · exact br_t (by decide) (rq_64 a 0 ha' ht p2 _ rfl)
  · exact br_f (by decide) (br_t (by decide) (rq_64 a 1 ha' ht p2 _ rfl))
  · exact br_f (by decide) (br_f (by decide) (rq_64 a 2 ha' ht p2 _ rfl))
end
section
theorem i_vc (xs : Nat → Int32) (L : Nat) (hL : L ≤ 3) : wpL_law (fun r => r = 1) L xs :=
  rq_cell _ (fun _ => rq_cell _ (fun _ => rq_cell _ (fun _ => ⟨90, 1440, by decide, by decide, rq_lawOf _ _ _⟩) xs L hL 2 (by decide)) xs L hL 1 (by decide)) xs L hL 0 (by decide)
end
