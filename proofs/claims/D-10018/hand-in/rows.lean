section
/-! trees of addresses, lists in arrays, bits -/
abbrev bu_T : Type := Lean.RArray Unit
def bu_rt : bu_T → Nat
  | .leaf _ => 0
  | .branch k _ _ => k
def bu_sz : bu_T → Nat
  | .leaf _ => 0
  | .branch _ l r => 1 + bu_sz l + bu_sz r
def bu_ad : bu_T → List Nat
  | .leaf _ => []
  | .branch k l r => k :: (bu_ad l ++ bu_ad r)
def bu_al (P : Nat → bu_T → bu_T → Prop) : bu_T → Prop
  | .leaf _ => True
  | .branch k l r => P k l r ∧ bu_al P l ∧ bu_al P r
theorem bu_len (B : bu_T) : (bu_ad B).length = bu_sz B := by
  induction B with
  | leaf _ => rfl
  | branch k l r hl hr => simp only [bu_ad, bu_sz, List.length_cons, List.length_append, hl, hr]; omega
theorem bu_rt_mem {B : bu_T} (h : 0 < bu_sz B) : bu_rt B ∈ bu_ad B := by
  cases B with
  | leaf _ => exact absurd h (by simp [bu_sz])
  | branch k l r => simp [bu_rt, bu_ad]
theorem bu_al_mono {P Q : Nat → bu_T → bu_T → Prop} {B : bu_T} (hB : bu_al P B) (h : ∀ k l r, k ∈ bu_ad B → (∀ x, x ∈ bu_ad l → x ∈ bu_ad B) → (∀ x, x ∈ bu_ad r → x ∈ bu_ad B) → P k l r → Q k l r) : bu_al Q B := by
  induction B with
  | leaf _ => trivial
  | branch k l r hl hr =>
    obtain ⟨h1, h2, h3⟩ := hB
    refine ⟨h k l r (by simp [bu_ad]) (fun x hx => by simp [bu_ad, hx]) (fun x hx => by simp [bu_ad, hx]) h1, hl h2 (fun k' l' r' a b c => ?_), hr h3 (fun k' l' r' a b c => ?_)⟩
    · exact h k' l' r' (by simp [bu_ad, a]) (fun x hx => by simp [bu_ad, b x hx]) (fun x hx => by simp [bu_ad, c x hx])
    · exact h k' l' r' (by simp [bu_ad, a]) (fun x hx => by simp [bu_ad, b x hx]) (fun x hx => by simp [bu_ad, c x hx])
theorem bu_al_and {P Q : Nat → bu_T → bu_T → Prop} {B : bu_T} (h1 : bu_al P B) (h2 : bu_al Q B) : bu_al (fun k l r => P k l r ∧ Q k l r) B := by
  induction B with
  | leaf _ => trivial
  | branch k l r hl hr => exact ⟨⟨h1.1, h2.1⟩, hl h1.2.1 h2.2.1, hr h1.2.2 h2.2.2⟩
theorem bu_al_mem {P : Nat → bu_T → bu_T → Prop} {B : bu_T} (hB : bu_al P B) {x : Nat} (hx : x ∈ bu_ad B) : ∃ l r, P x l r := by
  induction B with
  | leaf _ => simp [bu_ad] at hx
  | branch k l r hl hr =>
    simp only [bu_ad, List.mem_cons, List.mem_append] at hx
    rcases hx with e | e | e
    · exact ⟨l, r, e ▸ hB.1⟩
    · exact hl hB.2.1 e
    · exact hr hB.2.2 e

/-! arity -/
def bu_ar (s : Nat) : Nat := if s = 3 then 1 else if s = 4 then 1 else if s = 5 then 2 else if s = 6 then 2 else 0
theorem bu_ar_le (s : Nat) : bu_ar s ≤ 2 := by
  unfold bu_ar; repeat' split
  all_goals omega
theorem bu_ar_var {s : Nat} (h : 7 ≤ s) : bu_ar s = 0 := by
  unfold bu_ar; repeat' split
  all_goals omega
theorem bu_parts {post : Int32 → Prop} {w h ru pa ro li : Int32} {a1 a2 a3 a4 a5 a6 a7 a8 a9 a10 a11 a12 a13 a14 a15 a16 a18 a19 a20 a21 : Nat → Int32} {a17 : Nat → Int64} {s : Nat} (hs : s ≤ 9) (hp : post (nI (bu_ar s))) : wpX_parts post (w, h, ru, pa, ro, li, a1, a2, a3, a4, a5, a6, a7, a8, a9, a10, a11, a12, a13, a14, a15, a16, a17, a18, a19, a20, a21) (nI s) := by
  refine pk_eq s 3 (fun e => ?_) (fun e3 => pk_eq s 4 (fun e => ?_) (fun e4 => pk_eq s 5 (fun e => ?_) (fun e5 => pk_eq s 6 (fun e => ?_) (fun e6 => ?_))))
  · subst e; exact hp
  · subst e; exact hp
  · subst e; exact hp
  · subst e; exact hp
  · have e : bu_ar s = 0 := by simp [bu_ar, e3, e4, e5, e6]
    rw [e] at hp; exact hp

/-! a list in an array -/
def bu_at (a : Nat → Int32) : Nat → List Nat → Prop
  | _, [] => True
  | b, s :: l => a b = nI s ∧ bu_at a (b + 1) l
theorem bu_at_app {a : Nat → Int32} {b : Nat} {l m : List Nat} : bu_at a b (l ++ m) ↔ bu_at a b l ∧ bu_at a (b + l.length) m := by
  induction l generalizing b with
  | nil => simp [bu_at]
  | cons s l ih =>
    simp only [List.cons_append, bu_at, List.length_cons, ih, and_assoc]
    rw [show b + 1 + l.length = b + (l.length + 1) by omega]
theorem bu_at_eq {a a' : Nat → Int32} {b : Nat} {l : List Nat} (h : bu_at a b l) (he : ∀ j, b ≤ j → j < b + l.length → a' j = a j) : bu_at a' b l := by
  induction l generalizing b with
  | nil => trivial
  | cons s l ih =>
    refine ⟨?_, ih h.2 (fun j h1 h2 => he j (by omega) (by simp only [List.length_cons]; omega))⟩
    rw [he b (Nat.le_refl b) (by simp only [List.length_cons]; omega)]; exact h.1
theorem bu_at_get {a : Nat → Int32} {b : Nat} {l : List Nat} (h : bu_at a b l) {j : Nat} (hj : j < l.length) : a (b + j) = nI l[j] := by
  induction l generalizing b j with
  | nil => simp at hj
  | cons s l ih =>
    cases j with
    | zero => exact h.1
    | succ j =>
      have := ih h.2 (j := j) (by simpa using hj)
      rw [show b + (j + 1) = b + 1 + j by omega, this]; rfl
theorem bu_at_of {a : Nat → Int32} {b : Nat} {l : List Nat} (h : ∀ j (hj : j < l.length), a (b + j) = nI l[j]) : bu_at a b l := by
  induction l generalizing b with
  | nil => trivial
  | cons s l ih =>
    refine ⟨h 0 (by simp), ih (fun j hj => ?_)⟩
    have := h (j + 1) (by simpa using hj)
    rw [show b + 1 + j = b + (j + 1) by omega, this]; rfl
/-- one more place written behind a list -/
theorem bu_at_snoc {a : Nat → Int32} {b s : Nat} {l : List Nat} (h : bu_at a b l) : bu_at (upd a (b + l.length) (nI s)) b (l ++ [s]) := by
  refine bu_at_app.mpr ⟨bu_at_eq h (fun j h1 h2 => pk_un (by omega)), pk_us, trivial⟩

/-! terms, a symbol ahead of its parts -/
def bu_tm : List Nat → Nat → Prop
  | [], c => c = 0
  | s :: l, c => ∃ m, c = m + 1 ∧ bu_tm l (m + bu_ar s)
theorem bu_tm_app {l m : List Nat} {c d : Nat} (h : bu_tm l c) (g : bu_tm m d) : bu_tm (l ++ m) (c + d) := by
  induction l generalizing c with
  | nil => simp only [bu_tm] at h; subst h; simpa using g
  | cons s l ih =>
    obtain ⟨e, rfl, h2⟩ := h
    refine ⟨e + d, by omega, ?_⟩
    have := ih h2
    rw [show e + d + bu_ar s = e + bu_ar s + d by omega]; exact this
theorem bu_tm_sfx {l m : List Nat} {c : Nat} (h : bu_tm (l ++ m) c) : ∃ d, bu_tm m d := by
  induction l generalizing c with
  | nil => exact ⟨c, h⟩
  | cons s l ih => obtain ⟨e, _, h2⟩ := h; exact ih h2

/-! bits of a long -/
def bu_bt (v : Int64) (s : Int32) : Prop := (((v.toUInt64 >>> (s.toInt64.toUInt64 &&& Int64.toUInt64 63)).toInt64) &&& 1) = 1
theorem bu_cu : ∀ k, k < 64 → ((nI k).toInt64.toUInt64 &&& Int64.toUInt64 63) = UInt64.ofNat k := by decide +kernel
theorem bu_one : ∀ k, k < 64 → ((1 : Int64) <<< ((nI k).toInt64 &&& 63)).toBitVec = BitVec.twoPow 64 k := by decide +kernel
theorem bu_bt_iff {v : Int64} {q : Nat} (hq : q < 64) : bu_bt v (nI q) ↔ v.toBitVec.getLsbD q = true := by
  unfold bu_bt
  rw [bu_cu q hq]
  have hs : (UInt64.ofNat q).toNat = q := by
    show (BitVec.ofNat 64 q).toNat = q
    rw [BitVec.toNat_ofNat, Nat.mod_eq_of_lt (by omega)]
  have e : (v.toUInt64 >>> UInt64.ofNat q).toInt64.toBitVec = v.toBitVec >>> q := by
    apply BitVec.eq_of_toNat_eq
    show (v.toUInt64 >>> UInt64.ofNat q).toNat = _
    rw [UInt64.toNat_shiftRight, hs, Nat.mod_eq_of_lt hq, BitVec.toNat_ushiftRight]
    rfl
  rw [← Int64.toBitVec_inj, Int64.toBitVec_and, e]
  show v.toBitVec >>> q &&& 1#64 = 1#64 ↔ _
  constructor
  · intro h
    have t := congrArg (fun x => x.getLsbD 0) h
    simpa using t
  · intro h
    apply BitVec.eq_of_getLsbD_eq
    intro i hi
    cases i with
    | zero => simp [h]
    | succ i => simp
theorem bu_bt_or {v : Int64} {p q : Nat} (hp : p < 64) (hq : q < 64) (h : bu_bt (v ||| ((1 : Int64) <<< ((nI p).toInt64 &&& 63))) (nI q)) : bu_bt v (nI q) ∨ p = q := by
  rw [bu_bt_iff hq, Int64.toBitVec_or, bu_one p hp, BitVec.getLsbD_or, Bool.or_eq_true] at h
  rcases h with h | h
  · exact Or.inl ((bu_bt_iff hq).mpr h)
  · rw [BitVec.getLsbD_twoPow] at h
    simp only [Bool.and_eq_true, decide_eq_true_eq] at h
    exact Or.inr h.2
theorem bu_bt_one {q : Nat} (hq : q < 64) (h : bu_bt 1 (nI q)) : q = 0 := by
  rw [bu_bt_iff hq] at h
  have e : (1 : Int64).toBitVec = BitVec.twoPow 64 0 := by decide
  rw [e, BitVec.getLsbD_twoPow] at h
  simp only [Bool.and_eq_true, decide_eq_true_eq] at h
  omega
end
section
/-! workOut -/
def bu_ft (a7 a8 a9 a12 a13 a14 : Nat → Int32) (a17 : Nat → Int64) (x p : Nat) : Prop :=
  a7 p = a12 x ∧ (¬ a13 x = 0 → bu_bt (a17 (a13 x).toNatClampNeg) (a8 p)) ∧ (¬ a14 x = 0 → bu_bt (a17 (a14 x).toNatClampNeg) (a9 p))
theorem bu_w162f {post : St1 → Prop} {J : Int64 → Int32 → Prop} {x1 : Int32} {v : Int64} {p : Nat} {w h ru pa ro li : Int32} {a1 a2 a3 a4 a5 a6 a7 a8 a9 a10 a11 a12 a13 a14 a15 a16 a18 a19 a20 a21 : Nat → Int32} {a17 : Nat → Int64} (hJ : J v (nI (p + 1))) : wX_workOut_162 post J x1 v (nI p) 0 w h ru pa ro li a1 a2 a3 a4 a5 a6 a7 a8 a9 a10 a11 a12 a13 a14 a15 a16 a17 a18 a19 a20 a21 :=
  br_t rfl (nm_r (nI_1 p) hJ)
theorem bu_w162t {post : St1 → Prop} {J : Int64 → Int32 → Prop} {x1 : Int32} {v : Int64} {p : Nat} {w h ru pa ro li : Int32} {a1 a2 a3 a4 a5 a6 a7 a8 a9 a10 a11 a12 a13 a14 a15 a16 a18 a19 a20 a21 : Nat → Int32} {a17 : Nat → Int64} (hJ : J (v ||| ((1 : Int64) <<< ((nI p).toInt64 &&& 63))) (nI (p + 1))) : wX_workOut_162 post J x1 v (nI p) 1 w h ru pa ro li a1 a2 a3 a4 a5 a6 a7 a8 a9 a10 a11 a12 a13 a14 a15 a16 a17 a18 a19 a20 a21 :=
  br_f (by decide) (nm_e (nm_r (nI_1 p) hJ))
theorem bu_w115f {post : St1 → Prop} {J : Int64 → Int32 → Prop} {x1 : Int32} {v : Int64} {p : Nat} {w h ru pa ro li : Int32} {a1 a2 a3 a4 a5 a6 a7 a8 a9 a10 a11 a12 a13 a14 a15 a16 a18 a19 a20 a21 : Nat → Int32} {a17 : Nat → Int64} (hJ : J v (nI (p + 1))) : wX_workOut_115 post J x1 v (nI p) 0 w h ru pa ro li a1 a2 a3 a4 a5 a6 a7 a8 a9 a10 a11 a12 a13 a14 a15 a16 a17 a18 a19 a20 a21 :=
  br_t rfl (bu_w162f hJ)
theorem bu_w115t {post : St1 → Prop} {J : Int64 → Int32 → Prop} {x p : Nat} {v : Int64} {w h ru pa ro li : Int32} {a1 a2 a3 a4 a5 a6 a7 a8 a9 a10 a11 a12 a13 a14 a15 a16 a18 a19 a20 a21 : Nat → Int32} {a17 : Nat → Int64} (hx : x < 64) (hp : p < 48) (h14 : vp_in (a14 x) 64)
    (ht : (¬ a14 x = 0 → bu_bt (a17 (a14 x).toNatClampNeg) (a9 p)) → J (v ||| ((1 : Int64) <<< ((nI p).toInt64 &&& 63))) (nI (p + 1)))
    (hf : ¬ (¬ a14 x = 0 → bu_bt (a17 (a14 x).toNatClampNeg) (a9 p)) → J v (nI (p + 1))) : wX_workOut_115 post J (nI x) v (nI p) 1 w h ru pa ro li a1 a2 a3 a4 a5 a6 a7 a8 a9 a10 a11 a12 a13 a14 a15 a16 a17 a18 a19 a20 a21 := by
  refine br_f (by decide) ⟨pk_in x 64 hx, ?_⟩
  rw [nI_clamp (show x < 2 ^ 31 by omega), nI_clamp (show p < 2 ^ 31 by omega)]
  refine br_c (fun e => bu_w162t (ht (fun z => absurd e z))) (fun e => ⟨pk_in x 64 hx, h14, pk_in p 48 hp, br_c (fun z => bu_w162t (ht (fun _ => z))) (fun z => bu_w162f (hf (fun g => z (g e))))⟩)
theorem bu_w66 {post : St1 → Prop} {J : Int64 → Int32 → Prop} {x p : Nat} {v : Int64} {w h ru pa ro li : Int32} {a1 a2 a3 a4 a5 a6 a7 a8 a9 a10 a11 a12 a13 a14 a15 a16 a18 a19 a20 a21 : Nat → Int32} {a17 : Nat → Int64} (hx : x < 64) (hp : p < 48) (h13 : vp_in (a13 x) 64) (h14 : vp_in (a14 x) 64)
    (ht : (¬ a13 x = 0 → bu_bt (a17 (a13 x).toNatClampNeg) (a8 p)) ∧ (¬ a14 x = 0 → bu_bt (a17 (a14 x).toNatClampNeg) (a9 p)) → J (v ||| ((1 : Int64) <<< ((nI p).toInt64 &&& 63))) (nI (p + 1)))
    (hf : ¬ ((¬ a13 x = 0 → bu_bt (a17 (a13 x).toNatClampNeg) (a8 p)) ∧ (¬ a14 x = 0 → bu_bt (a17 (a14 x).toNatClampNeg) (a9 p))) → J v (nI (p + 1))) : wX_workOut_66 post J (nI x) v (nI p) 1 w h ru pa ro li a1 a2 a3 a4 a5 a6 a7 a8 a9 a10 a11 a12 a13 a14 a15 a16 a17 a18 a19 a20 a21 := by
  refine br_f (by decide) ⟨pk_in x 64 hx, ?_⟩
  rw [nI_clamp (show x < 2 ^ 31 by omega), nI_clamp (show p < 2 ^ 31 by omega)]
  refine br_c (fun e => bu_w115t hx hp h14 (fun g => ht ⟨fun z => absurd e z, g⟩) (fun g => hf (fun z => g z.2))) (fun e => ⟨pk_in x 64 hx, h13, pk_in p 48 hp, br_c (fun z => ?_) (fun z => ?_)⟩)
  · exact bu_w115t hx hp h14 (fun g => ht ⟨fun _ => z, g⟩) (fun g => hf (fun z => g z.2))
  · exact bu_w115f (hf (fun g => z (g.1 e)))
theorem bu_w36 {P x : Nat} {a7 a8 a9 a12 a13 a14 : Nat → Int32} {a17 : Nat → Int64} (hP : P ≤ 48) (hx : x < 64) (h13 : vp_in (a13 x) 64) (h14 : vp_in (a14 x) 64) (m : Nat) :
    ∀ (p : Nat) (v : Int64), p + m = P → 1 ≤ p → (∀ q, 1 ≤ q → q < 64 → bu_bt v (nI q) → q < P ∧ bu_ft a7 a8 a9 a12 a13 a14 a17 x q) →
    ∃ v', (∀ q, 1 ≤ q → q < 64 → bu_bt v' (nI q) → q < P ∧ bu_ft a7 a8 a9 a12 a13 a14 a17 x q) ∧
      ∀ {w h ru ro li : Int32} {a1 a2 a3 a4 a5 a6 a10 a11 a15 a16 a18 a19 a20 a21 : Nat → Int32} (post : St1 → Prop), post (w, h, ru, (nI P), ro, li, a1, a2, a3, a4, a5, a6, a7, a8, a9, a10, a11, a12, a13, a14, a15, a16, (vp_updL a17 x v'), a18, a19, a20, a21) → wX_workOut_36 post (nI x) w h ru (nI P) ro li a1 a2 a3 a4 a5 a6 a7 a8 a9 a10 a11 a12 a13 a14 a15 a16 a17 a18 a19 a20 a21 (m + 1) v (nI p) := by
  induction m with
  | zero =>
    intro p v e h1 hv
    refine ⟨v, hv, ?_⟩
    intros; rename_i post hp
    refine pk_le P p (fun _ => ⟨pk_in x 64 hx, nm_r (by rw [nI_clamp (show x < 2 ^ 31 by omega)]) hp⟩) (fun z => absurd z (by omega))
  | succ m ih =>
    intro p v e h1 hv
    by_cases hf : bu_ft a7 a8 a9 a12 a13 a14 a17 x p
    · obtain ⟨v', hv', hw⟩ := ih (p + 1) (v ||| ((1 : Int64) <<< ((nI p).toInt64 &&& 63))) (by omega) (by omega) (fun q q1 q2 hq => by
        rcases bu_bt_or (by omega) q2 hq with g | g
        · exact hv q q1 q2 g
        · exact g ▸ ⟨by omega, hf⟩)
      refine ⟨v', hv', ?_⟩
      intros; rename_i post hp
      refine pk_le P p (fun z => absurd z (by omega)) (fun _ => ⟨pk_in p 48 (by omega), pk_in x 64 hx, ?_⟩)
      rw [nI_clamp (show x < 2 ^ 31 by omega), nI_clamp (show p < 2 ^ 31 by omega)]
      exact br_t hf.1 (bu_w66 hx (by omega) h13 h14 (fun _ => hw post hp) (fun g => absurd hf.2 g))
    · obtain ⟨v', hv', hw⟩ := ih (p + 1) v (by omega) (by omega) hv
      refine ⟨v', hv', ?_⟩
      intros; rename_i post hp
      refine pk_le P p (fun z => absurd z (by omega)) (fun _ => ⟨pk_in p 48 (by omega), pk_in x 64 hx, ?_⟩)
      rw [nI_clamp (show x < 2 ^ 31 by omega), nI_clamp (show p < 2 ^ 31 by omega)]
      refine br_c (fun g => bu_w66 hx (by omega) h13 h14 (fun z => absurd ⟨g, z⟩ hf) (fun _ => hw post hp)) (fun g => br_t rfl (bu_w115f (hw post hp)))
/-- workOut(x): size from the children's, fitting sound -/
theorem bu_work {P x : Nat} {a7 a8 a9 a12 a13 a14 a16 : Nat → Int32} {a17 : Nat → Int64} (hP1 : 1 ≤ P) (hP : P ≤ 48) (hx : x < 64) (h13 : vp_in (a13 x) 64) (h14 : vp_in (a14 x) 64) :
    ∃ v', (∀ q, 1 ≤ q → q < 64 → bu_bt v' (nI q) → q < P ∧ bu_ft a7 a8 a9 a12 a13 a14 a17 x q) ∧
      ∀ {w h ru ro li : Int32} {a1 a2 a3 a4 a5 a6 a10 a11 a15 a18 a19 a20 a21 : Nat → Int32} (post : St1 → Prop), post (w, h, ru, (nI P), ro, li, a1, a2, a3, a4, a5, a6, a7, a8, a9, a10, a11, a12, a13, a14, a15, (upd a16 x ((1 + (a16 (a13 x).toNatClampNeg)) + (a16 (a14 x).toNatClampNeg))), (vp_updL a17 x v'), a18, a19, a20, a21) → wpX_workOut post (w, h, ru, (nI P), ro, li, a1, a2, a3, a4, a5, a6, a7, a8, a9, a10, a11, a12, a13, a14, a15, a16, a17, a18, a19, a20, a21) (nI x) := by
  obtain ⟨v', hv', hw⟩ := bu_w36 (P := P) hP hx h13 h14 (P - 1) 1 1 (by omega) (by omega) (fun q q1 q2 hq => absurd (bu_bt_one q2 hq) (by omega))
  refine ⟨v', hv', ?_⟩
  intros; rename_i post hp
  unfold wpX_workOut
  dsimp only
  rw [nI_clamp (show x < 2 ^ 31 by omega)]
  exact ⟨pk_in x 64 hx, h13, pk_in x 64 hx, h14, pk_in x 64 hx, nm_e ⟨P - 1 + 1, hw post hp⟩⟩
end
section
/-! listPlaces: what it writes depends on the tree alone -/
def bu_wr (f : Nat → Int32) (W : List (Nat × Int32)) : Nat → Int32 := W.foldl (fun g e => upd g e.1 e.2) f
theorem bu_wr_nil (f : Nat → Int32) : bu_wr f [] = f := rfl
theorem bu_wr_cons (f : Nat → Int32) (e : Nat × Int32) (W : List (Nat × Int32)) : bu_wr f (e :: W) = bu_wr (upd f e.1 e.2) W := rfl
theorem bu_wr_app (f : Nat → Int32) (U V : List (Nat × Int32)) : bu_wr f (U ++ V) = bu_wr (bu_wr f U) V := List.foldl_append
theorem bu_wr_out {f : Nat → Int32} {W : List (Nat × Int32)} {j : Nat} (h : ∀ e, e ∈ W → e.1 ≠ j) : bu_wr f W j = f j := by
  induction W generalizing f with
  | nil => rfl
  | cons e W ih =>
    rw [bu_wr_cons, ih (fun x hx => h x (List.mem_cons_of_mem _ hx))]
    exact pk_un (fun z => h e List.mem_cons_self z.symm)
theorem bu_wr_in {f g : Nat → Int32} {W : List (Nat × Int32)} {j : Nat} (h : ∃ e, e ∈ W ∧ e.1 = j) : bu_wr f W j = bu_wr g W j := by
  induction W generalizing f g with
  | nil => obtain ⟨e, he, _⟩ := h; simp at he
  | cons e W ih =>
    rw [bu_wr_cons, bu_wr_cons]
    by_cases hW : ∃ x, x ∈ W ∧ x.1 = j
    · exact ih hW
    · have ho : ∀ x, x ∈ W → x.1 ≠ j := fun x hx z => hW ⟨x, hx, z⟩
      rw [bu_wr_out ho, bu_wr_out ho]
      obtain ⟨y, hy, ey⟩ := h
      rcases List.mem_cons.mp hy with g1 | g1
      · rw [g1] at ey; rw [ey, pk_us, pk_us]
      · exact absurd ey (ho y g1)
theorem bu_wr_idem (f : Nat → Int32) (W : List (Nat × Int32)) : bu_wr (bu_wr f W) W = bu_wr f W := by
  funext j
  by_cases h : ∃ x, x ∈ W ∧ x.1 = j
  · exact bu_wr_in h
  · exact bu_wr_out (fun x hx z => h ⟨x, hx, z⟩)

def bu_sh (a13 a14 : Nat → Int32) (k : Nat) (l r : bu_T) : Prop := 0 < k ∧ k < 64 ∧ a13 k = nI (bu_rt l) ∧ a14 k = nI (bu_rt r)
def bu_b : bu_T → Nat
  | .leaf _ => 0
  | .branch _ _ _ => 1
def bu_pw : bu_T → Nat → List (Nat × Int32)
  | .leaf _, _ => []
  | .branch k _ _, d => [(d, nI k)]
theorem bu_b_le (B : bu_T) : bu_b B ≤ bu_sz B := by
  cases B with
  | leaf _ => exact Nat.le_refl _
  | branch k l r => show 1 ≤ 1 + bu_sz l + bu_sz r; omega
theorem bu_pw_at {B : bu_T} {d : Nat} {p : Nat → Int32} (h : 0 < bu_sz B) : bu_wr p (bu_pw B d) d = nI (bu_rt B) := by
  cases B with
  | leaf _ => simp [bu_sz] at h
  | branch k l r => exact pk_us
theorem bu_pw_mem {B : bu_T} {d : Nat} {e : Nat × Int32} (h : e ∈ bu_pw B d) : e.1 = d ∧ 0 < bu_sz B := by
  cases B with
  | leaf _ => simp [bu_pw] at h
  | branch k l r => simp only [bu_pw, List.mem_singleton] at h; subst h; exact ⟨rfl, by show 0 < 1 + bu_sz l + bu_sz r; omega⟩
theorem bu_sh_rt {a13 a14 : Nat → Int32} {B : bu_T} (h : bu_al (bu_sh a13 a14) B) : bu_rt B < 64 := by
  cases B with
  | leaf _ => show 0 < 64; omega
  | branch k l r => exact h.1.2.1
theorem bu_sh_0 {a13 a14 : Nat → Int32} {B : bu_T} (h : bu_al (bu_sh a13 a14) B) (h0 : bu_rt B = 0) : bu_b B = 0 ∧ bu_sz B = 0 ∧ ∀ d, bu_pw B d = [] := by
  cases B with
  | leaf _ => exact ⟨rfl, rfl, fun _ => rfl⟩
  | branch k l r => exact absurd h0 (by have := h.1.1; show k ≠ 0; omega)
theorem bu_sh_1 {a13 a14 : Nat → Int32} {B : bu_T} (h0 : bu_rt B ≠ 0) : bu_b B = 1 ∧ 0 < bu_sz B ∧ ∀ d, bu_pw B d = [(d, nI (bu_rt B))] := by
  cases B with
  | leaf _ => exact absurd rfl h0
  | branch k l r => exact ⟨rfl, by show 0 < 1 + bu_sz l + bu_sz r; omega, fun _ => rfl⟩

theorem bu_lp73 {post : Int32 → St1 → Prop} {J : Int32 → Int32 → Int32 → (Nat → Int32) → (Nat → Int32) → (Nat → Int32) → (Nat → Int32) → (Nat → Int32) → (Nat → Int32) → (Nat → Int32) → (Nat → Int32) → (Nat → Int32) → (Nat → Int32) → (Nat → Int32) → (Nat → Int32) → (Nat → Int32) → (Nat → Int32) → (Nat → Int32) → (Nat → Int32) → (Nat → Int64) → (Nat → Int32) → (Nat → Int32) → (Nat → Int32) → (Nat → Int32) → Prop} {x2 : Int32} {d i k : Nat} {l : bu_T} {w h ru pa ro li : Int32} {a1 a2 a3 a4 a5 a6 a7 a8 a9 a10 a11 a12 a13 a14 a15 a16 a18 a19 a20 a21 : Nat → Int32} {a17 : Nat → Int64}
    (hl : bu_al (bu_sh a13 a14) l) (hk : k < 64) (h13 : a13 k = nI (bu_rt l)) (hd : d + bu_b l ≤ 64)
    (hJ : J x2 (nI (d + bu_b l)) (nI (i + 1)) a1 a2 a3 a4 a5 a6 a7 a8 a9 a10 a11 a12 a13 a14 a15 a16 a17 a18 a19 (bu_wr a20 (bu_pw l d)) a21) : wX_listPlaces_73 post J x2 (nI d) (nI i) (nI k) w h ru pa ro li a1 a2 a3 a4 a5 a6 a7 a8 a9 a10 a11 a12 a13 a14 a15 a16 a17 a18 a19 a20 a21 := by
  have hr := bu_sh_rt hl
  refine ⟨pk_in k 64 hk, ?_⟩
  rw [nI_clamp (show k < 2 ^ 31 by omega), h13]
  refine pk_eq (bu_rt l) 0 (fun e => nm_r (nI_1 i) ?_) (fun e => ?_)
  · obtain ⟨e1, _, e3⟩ := bu_sh_0 hl e
    rw [e1, e3 d] at hJ; exact hJ
  · obtain ⟨e1, _, e3⟩ := bu_sh_1 (a13 := a13) (a14 := a14) e
    rw [e1, e3 d] at hJ
    exact ⟨pk_in k 64 hk, pk_in d 64 (by omega), nm_r (by rw [nI_clamp (show d < 2 ^ 31 by omega)]; rfl) (nm_r (nI_1 d) (nm_r (nI_1 i) hJ))⟩

theorem bu_lpS {a13 a14 : Nat → Int32} (B : bu_T) : bu_al (bu_sh a13 a14) B → ∀ i d, i + bu_sz B ≤ 31 → d + bu_sz B ≤ 64 →
    ∃ Wo Wp, (∀ e, e ∈ Wo → i ≤ e.1 ∧ e.1 < i + bu_sz B) ∧ (∀ o, bu_at (bu_wr o Wo) i (bu_ad B)) ∧ (∀ e, e ∈ Wp → d ≤ e.1) ∧
      ∀ {w h ru pa ro li : Int32} {a1 a2 a3 a4 a5 a6 a7 a8 a9 a10 a11 a12 a15 a16 a18 a19 a20 a21 : Nat → Int32} {a17 : Nat → Int64} (post : Int32 → St1 → Prop) (n : Nat), (0 < bu_sz B → a20 d = nI (bu_rt B)) →
        wX_listPlaces_14 post w h ru pa ro li n (nI (i + bu_sz B)) (nI d) (nI (i + bu_sz B)) a1 a2 a3 a4 a5 a6 a7 a8 a9 a10 a11 a12 a13 a14 a15 a16 a17 a18 (bu_wr a19 Wo) (bu_wr a20 Wp) a21 →
        wX_listPlaces_14 post w h ru pa ro li (n + bu_sz B) (nI i) (nI (d + bu_b B)) (nI i) a1 a2 a3 a4 a5 a6 a7 a8 a9 a10 a11 a12 a13 a14 a15 a16 a17 a18 a19 a20 a21 := by
  induction B with
  | leaf _ =>
    intro _ i d _ _
    refine ⟨[], [], fun e he => by simp at he, fun o => trivial, fun e he => by simp at he, ?_⟩
    intros; rename_i h
    exact h
  | branch k l r ihl ihr =>
    intro hB i d hi hd
    obtain ⟨⟨k0, k1, k13, k14⟩, hl, hr⟩ := hB
    have es : bu_sz (.branch k l r) = 1 + bu_sz l + bu_sz r := rfl
    rw [es] at hi hd
    have hbl := bu_b_le l
    have hbr := bu_b_le r
    obtain ⟨Wo1, Wp1, o1, o2, o3, o4⟩ := ihl hl (i + 1) (d + bu_b r) (by omega) (by omega)
    obtain ⟨Wo2, Wp2, q1, q2, q3, q4⟩ := ihr hr (i + 1 + bu_sz l) d (by omega) (by omega)
    refine ⟨(i, nI k) :: (Wo1 ++ Wo2), bu_pw r d ++ (bu_pw l (d + bu_b r) ++ (Wp1 ++ Wp2)), ?_, ?_, ?_, ?_⟩
    · intro e he
      rw [es]
      rcases List.mem_cons.mp he with g | g
      · rw [g]; show i ≤ i ∧ i < _; omega
      · rcases List.mem_append.mp g with g | g
        · have := o1 e g; omega
        · have := q1 e g; omega
    · intro o
      rw [bu_wr_cons, bu_wr_app]
      refine ⟨?_, bu_at_app.mpr ⟨?_, ?_⟩⟩
      · rw [bu_wr_out (fun e he => by have := q1 e he; omega), bu_wr_out (fun e he => by have := o1 e he; omega)]
        exact pk_us
      · refine bu_at_eq (o2 _) (fun j h1 h2 => bu_wr_out (fun e he => ?_))
        have := q1 e he
        rw [bu_len] at h2; omega
      · rw [bu_len]; exact q2 _
    · intro e he
      rcases List.mem_append.mp he with g | g
      · exact Nat.le_of_eq (bu_pw_mem g).1.symm
      · rcases List.mem_append.mp g with g | g
        · have := (bu_pw_mem g).1; omega
        · rcases List.mem_append.mp g with g | g
          · have := o3 e g; omega
          · exact q3 e g
    · intro w h ru pa ro li a1 a2 a3 a4 a5 a6 a7 a8 a9 a10 a11 a12 a15 a16 a18 a19 a20 a21 a17 post n hp hw
      have hk : a20 d = nI k := hp (by rw [es]; omega)
      rw [es, show n + (1 + bu_sz l + bu_sz r) = (n + bu_sz r + bu_sz l) + 1 by omega]
      rw [es, show i + (1 + bu_sz l + bu_sz r) = i + 1 + bu_sz l + bu_sz r by omega, bu_wr_cons, bu_wr_app, bu_wr_app, bu_wr_app, bu_wr_app] at hw
      have hrr := bu_sh_rt hr
      have s3 := q4 post n (a19 := bu_wr (upd a19 i (nI k)) Wo1) (a20 := bu_wr (bu_wr (bu_wr a20 (bu_pw r d)) (bu_pw l (d + bu_b r))) Wp1) (fun z => by
        rw [bu_wr_out (fun e he => by
          have h1 := o3 e he
          have h2 : bu_b r = 1 := (bu_sh_1 (a13 := a13) (a14 := a14) (fun y => absurd (bu_sh_0 hr y).2.1 (by omega))).1
          omega), bu_wr_out (fun e he => by
          have h1 := (bu_pw_mem he).1
          have h2 : bu_b r = 1 := (bu_sh_1 (a13 := a13) (a14 := a14) (fun y => absurd (bu_sh_0 hr y).2.1 (by omega))).1
          omega)]
        exact bu_pw_at z) hw
      have s1 := o4 post (n + bu_sz r) (a19 := upd a19 i (nI k)) (a20 := bu_wr (bu_wr a20 (bu_pw r d)) (bu_pw l (d + bu_b r))) (fun z => bu_pw_at z) s3
      refine pk_le 31 i (fun z => absurd z (by omega)) (fun _ => pk_le (d + 1) 0 (fun z => absurd z (by omega)) (fun _ => nm_r (pk_m1 d) ⟨pk_in d 64 (by omega), nm_r (by rw [nI_clamp (show d < 2 ^ 31 by omega), hk]) ⟨pk_in i 32 (by omega), nm_r (by rw [nI_clamp (show i < 2 ^ 31 by omega)]) (nm_r (nI_1 i) ⟨pk_in k 64 k1, ?_⟩)⟩⟩))
      rw [nI_clamp (show k < 2 ^ 31 by omega), k14]
      refine pk_eq (bu_rt r) 0 (fun e => ?_) (fun e => ?_)
      · obtain ⟨e1, e2, e3⟩ := bu_sh_0 hr e
        rw [e1, e3 d] at s1
        exact bu_lp73 hl k1 k13 (by omega) s1
      · obtain ⟨e1, e2, e3⟩ := bu_sh_1 (a13 := a13) (a14 := a14) e
        rw [e1, e3 d] at s1
        exact ⟨pk_in k 64 k1, pk_in d 64 (by omega), nm_r (by rw [nI_clamp (show d < 2 ^ 31 by omega)]; rfl) (nm_r (nI_1 d) (bu_lp73 hl k1 k13 (by omega) s1))⟩

/-- listPlaces(rt B): answers the size; order holds the addresses; the writes depend on B alone -/
theorem bu_lp {a13 a14 : Nat → Int32} {B : bu_T} (hB : bu_al (bu_sh a13 a14) B) (h0 : 0 < bu_sz B) (h31 : bu_sz B ≤ 31) :
    ∃ Wo Wp, (∀ o, bu_at (bu_wr o Wo) 0 (bu_ad B)) ∧
      ∀ {w h ru pa ro li : Int32} {a1 a2 a3 a4 a5 a6 a7 a8 a9 a10 a11 a12 a15 a16 a18 a19 a20 a21 : Nat → Int32} {a17 : Nat → Int64} (post : Int32 → St1 → Prop), post (nI (bu_sz B)) (w, h, ru, pa, ro, li, a1, a2, a3, a4, a5, a6, a7, a8, a9, a10, a11, a12, a13, a14, a15, a16, a17, a18, (bu_wr a19 Wo), (bu_wr a20 Wp), a21) → wpX_listPlaces post (w, h, ru, pa, ro, li, a1, a2, a3, a4, a5, a6, a7, a8, a9, a10, a11, a12, a13, a14, a15, a16, a17, a18, a19, a20, a21) (nI (bu_rt B)) := by
  obtain ⟨Wo, Wp, _, h2, _, h4⟩ := bu_lpS B hB 0 0 (by omega) (by omega)
  refine ⟨Wo, (0, nI (bu_rt B)) :: Wp, h2, ?_⟩
  intro w h ru pa ro li a1 a2 a3 a4 a5 a6 a7 a8 a9 a10 a11 a12 a15 a16 a18 a19 a20 a21 a17 post hp
  have e1 : bu_b B = 1 := by
    cases B with
    | leaf _ => simp [bu_sz] at h0
    | branch k l r => rfl
  have t := h4 post 1 (a19 := a19) (a20 := upd a20 0 (nI (bu_rt B))) (fun _ => pk_us) (by
    rw [Nat.zero_add]
    exact pk_le 31 (bu_sz B) (fun _ => hp) (fun _ => br_t (nI_le (a := 0) (b := 0) (Nat.le_refl 0) (by decide)) hp))
  rw [e1] at t
  exact nm_e ⟨1 + bu_sz B, t⟩
end
section
/-! freshNode, grow -/
theorem bu_pig : ∀ (n : Nat) (U : List Nat), (∀ j, 1 ≤ j → j ≤ n → j ∈ U) → n ≤ U.length := by
  intro n
  induction n with
  | zero => intro U _; omega
  | succ n ih =>
    intro U h
    have hm : n + 1 ∈ U := h (n + 1) (by omega) (by omega)
    have := ih (U.erase (n + 1)) (fun j h1 h2 => (List.mem_erase_of_ne (by omega)).mpr (h j h1 (by omega)))
    rw [List.length_erase_of_mem hm] at this
    have : 0 < U.length := List.length_pos_of_mem hm
    omega
def bu_us (a11 : Nat → Int32) (U : List Nat) : Prop := ∀ j, 0 < j → j < 64 → (a11 j = 0 ↔ j ∉ U)
theorem bu_us_add {a11 : Nat → Int32} {U : List Nat} {x : Nat} (h : bu_us a11 U) : bu_us (upd a11 x 1) (x :: U) := by
  intro j h1 h2
  by_cases e : j = x
  · subst e; rw [pk_us]; simp
  · rw [pk_un e, h j h1 h2]; simp [e]
theorem bu_us_perm {a11 : Nat → Int32} {U V : List Nat} (h : bu_us a11 U) (he : ∀ x, x ∈ U ↔ x ∈ V) : bu_us a11 V := by
  intro j h1 h2
  rw [h j h1 h2, he j]
theorem bu_fn5 {a11 : Nat → Int32} (k : Nat) : ∀ c, k ≤ 63 → 1 ≤ c → c < 64 → (a11 c = 0 ∨ ∃ j, 1 ≤ j ∧ j ≤ k ∧ a11 j = 0) →
    ∃ x, 0 < x ∧ x < 64 ∧ a11 x = 0 ∧ ∀ {w h ru pa ro li : Int32} {a1 a2 a3 a4 a5 a6 a7 a8 a9 a10 a12 a13 a14 a15 a16 a18 a19 a20 a21 : Nat → Int32} {a17 : Nat → Int64} (post : Int32 → St1 → Prop), post (nI x) (w, h, ru, pa, ro, li, a1, a2, a3, a4, a5, a6, a7, a8, a9, a10, (upd a11 x 1), a12, a13, a14, a15, a16, a17, a18, a19, a20, a21) → wX_freshNode_5 post w h ru pa ro li a1 a2 a3 a4 a5 a6 a7 a8 a9 a10 a11 a12 a13 a14 a15 a16 a17 a18 a19 a20 a21 (k + 1) (nI c) (nI k) := by
  induction k with
  | zero =>
    intro c _ c1 c2 hc
    refine ⟨c, c1, c2, ?_, ?_⟩
    · rcases hc with h | ⟨j, h1, h2, _⟩
      · exact h
      · omega
    · intros; rename_i post hp
      exact pk_le 0 0 (fun _ => ⟨pk_in c 64 c2, nm_r (by rw [nI_clamp (show c < 2 ^ 31 by omega)]) hp⟩) (fun z => absurd z (by omega))
  | succ k ih =>
    intro c hk c1 c2 hc
    by_cases e : a11 (k + 1) = 0
    · obtain ⟨x, x1, x2, x3, hw⟩ := ih (k + 1) (by omega) (by omega) (by omega) (Or.inl e)
      refine ⟨x, x1, x2, x3, ?_⟩
      intros; rename_i post hp
      refine pk_le (k + 1) 0 (fun z => absurd z (by omega)) (fun _ => ⟨pk_in (k + 1) 64 (by omega), br_t ?_ (nm_r (pk_m1 k) (hw post hp))⟩)
      rw [nI_clamp (show k + 1 < 2 ^ 31 by omega)]; exact e
    · obtain ⟨x, x1, x2, x3, hw⟩ := ih c (by omega) c1 c2 (by
        rcases hc with h | ⟨j, h1, h2, h3⟩
        · exact Or.inl h
        · refine Or.inr ⟨j, h1, ?_, h3⟩
          rcases Nat.lt_or_ge j (k + 1) with z | z
          · omega
          · exact absurd (show a11 (k + 1) = 0 by rw [show k + 1 = j by omega]; exact h3) e)
      refine ⟨x, x1, x2, x3, ?_⟩
      intros; rename_i post hp
      refine pk_le (k + 1) 0 (fun z => absurd z (by omega)) (fun _ => ⟨pk_in (k + 1) 64 (by omega), br_f ?_ (nm_r (pk_m1 k) (hw post hp))⟩)
      rw [nI_clamp (show k + 1 < 2 ^ 31 by omega)]; exact e
theorem bu_fresh {a11 : Nat → Int32} {U : List Nat} (hU : bu_us a11 U) (hl : U.length < 63) :
    ∃ x, 0 < x ∧ x < 64 ∧ x ∉ U ∧ ∀ {w h ru pa ro li : Int32} {a1 a2 a3 a4 a5 a6 a7 a8 a9 a10 a12 a13 a14 a15 a16 a18 a19 a20 a21 : Nat → Int32} {a17 : Nat → Int64} (post : Int32 → St1 → Prop), post (nI x) (w, h, ru, pa, ro, li, a1, a2, a3, a4, a5, a6, a7, a8, a9, a10, (upd a11 x 1), a12, a13, a14, a15, a16, a17, a18, a19, a20, a21) → wpX_freshNode post (w, h, ru, pa, ro, li, a1, a2, a3, a4, a5, a6, a7, a8, a9, a10, a11, a12, a13, a14, a15, a16, a17, a18, a19, a20, a21) := by
  have hj : ∃ j, 1 ≤ j ∧ j ≤ 63 ∧ a11 j = 0 := by
    apply Classical.byContradiction
    intro hn
    have := bu_pig 63 U (fun j h1 h2 => Classical.byContradiction (fun hj => hn ⟨j, h1, h2, (hU j h1 (by omega)).mpr hj⟩))
    omega
  obtain ⟨x, x1, x2, x3, hw⟩ := bu_fn5 (a11 := a11) 63 1 (by omega) (by omega) (by omega) (Or.inr hj)
  refine ⟨x, x1, x2, (hU x x1 x2).mp x3, ?_⟩
  intros; rename_i post hp
  exact ⟨64, hw post hp⟩

/-! what holds at a node -/
def bu_as (s : Nat) (l r : bu_T) : Prop := bu_ar s = bu_b l + bu_b r ∧ bu_b r ≤ bu_b l
def bu_fs (P : Nat) (a7 a8 a9 a12 a13 a14 : Nat → Int32) (a17 : Nat → Int64) (k : Nat) : Prop := ∀ q, 1 ≤ q → q < 64 → bu_bt (a17 k) (nI q) → q < P ∧ bu_ft a7 a8 a9 a12 a13 a14 a17 k q
/-- links, symbol and arity -/
def bu_nd (a12 a13 a14 : Nat → Int32) (k : Nat) (l r : bu_T) : Prop := bu_sh a13 a14 k l r ∧ ∃ s, s ≤ 6 ∧ a12 k = nI s ∧ bu_as s l r
/-- size and fitting -/
def bu_ok (P : Nat) (a7 a8 a9 a12 a13 a14 a16 : Nat → Int32) (a17 : Nat → Int64) (k : Nat) (l r : bu_T) : Prop :=
  bu_nd a12 a13 a14 k l r ∧ a16 k = nI (1 + bu_sz l + bu_sz r) ∧ bu_fs P a7 a8 a9 a12 a13 a14 a17 k
def bu_ab (a15 : Nat → Int32) (k : Nat) (l r : bu_T) : Prop := (0 < bu_sz l → a15 (bu_rt l) = nI k) ∧ (0 < bu_sz r → a15 (bu_rt r) = nI k)
theorem bu_ok_nd {P : Nat} {a7 a8 a9 a12 a13 a14 a16 : Nat → Int32} {a17 : Nat → Int64} {B : bu_T} (h : bu_al (bu_ok P a7 a8 a9 a12 a13 a14 a16 a17) B) : bu_al (bu_nd a12 a13 a14) B := bu_al_mono h (fun _ _ _ _ _ _ z => z.1)
theorem bu_nd_sh {a12 a13 a14 : Nat → Int32} {B : bu_T} (h : bu_al (bu_nd a12 a13 a14) B) : bu_al (bu_sh a13 a14) B := bu_al_mono h (fun _ _ _ _ _ _ z => z.1)
theorem bu_sz_b {B : bu_T} : 0 < bu_sz B ↔ bu_b B = 1 := by
  cases B with
  | leaf _ => simp [bu_sz, bu_b]
  | branch k l r => exact ⟨fun _ => rfl, fun _ => by show 0 < 1 + bu_sz l + bu_sz r; omega⟩
theorem bu_b_01 (B : bu_T) : bu_b B = 0 ∨ bu_b B = 1 := by
  cases B with
  | leaf _ => exact Or.inl rfl
  | branch k l r => exact Or.inr rfl
theorem bu_sz_0 {B : bu_T} (h : bu_b B = 0) : bu_sz B = 0 := by
  cases B with
  | leaf _ => rfl
  | branch k l r => simp [bu_b] at h
theorem bu_ok_size {P : Nat} {a7 a8 a9 a12 a13 a14 a16 : Nat → Int32} {a17 : Nat → Int64} {B : bu_T} (h : bu_al (bu_ok P a7 a8 a9 a12 a13 a14 a16 a17) B) (h0 : a16 0 = 0) : a16 (bu_rt B) = nI (bu_sz B) := by
  cases B with
  | leaf _ => exact h0
  | branch k l r => exact h.1.2.1
theorem bu_sh_pos {a13 a14 : Nat → Int32} {B : bu_T} (h : bu_al (bu_sh a13 a14) B) : 0 < bu_sz B ↔ 0 < bu_rt B := by
  cases B with
  | leaf _ => simp [bu_sz, bu_rt]
  | branch k l r => have := h.1.1; simp only [bu_sz, bu_rt]; omega
theorem bu_sh_ad {a13 a14 : Nat → Int32} {B : bu_T} (h : bu_al (bu_sh a13 a14) B) {x : Nat} (hx : x ∈ bu_ad B) : 0 < x ∧ x < 64 := by
  obtain ⟨l, r, h⟩ := bu_al_mem h hx
  exact ⟨h.1, h.2.1⟩
theorem bu_al_kids {Q : Nat → bu_T → bu_T → Prop} {B : bu_T} (h : bu_al Q B) : bu_al (fun _ l r => bu_al Q l ∧ bu_al Q r) B := by
  induction B with
  | leaf _ => trivial
  | branch k l r ihl ihr => exact ⟨h.2, ihl h.2.1, ihr h.2.2⟩
/-- only what stands at the tree's own addresses matters -/
theorem bu_ok_frame {P : Nat} {a7 a8 a9 a12 a13 a14 a16 : Nat → Int32} {a17 : Nat → Int64} {b12 b13 b14 b16 : Nat → Int32} {b17 : Nat → Int64} {B : bu_T}
    (h : bu_al (bu_ok P a7 a8 a9 a12 a13 a14 a16 a17) B) (he : ∀ x, x ∈ bu_ad B → b12 x = a12 x ∧ b13 x = a13 x ∧ b14 x = a14 x ∧ b16 x = a16 x ∧ b17 x = a17 x) :
    bu_al (bu_ok P a7 a8 a9 b12 b13 b14 b16 b17) B := by
  have hs := bu_nd_sh (bu_ok_nd h)
  refine bu_al_mono (bu_al_and h (bu_al_kids hs)) (fun k l r hk hl hr z => ?_)
  obtain ⟨⟨⟨⟨k0, k1, k13, k14⟩, s, s6, k12, has⟩, k16, kf⟩, sl, sr⟩ := z
  obtain ⟨e12, e13, e14, e16, e17⟩ := he k hk
  refine ⟨⟨⟨k0, k1, by rw [e13]; exact k13, by rw [e14]; exact k14⟩, s, s6, by rw [e12]; exact k12, has⟩, by rw [e16]; exact k16, fun q q1 q2 hq => ?_⟩
  rw [e17] at hq
  obtain ⟨f0, f1, f2, f3⟩ := kf q q1 q2 hq
  refine ⟨f0, by rw [e12]; exact f1, fun z => ?_, fun z => ?_⟩
  · rw [e13] at z ⊢
    have := f2 z
    rw [k13] at this z ⊢
    have hr1 := bu_sh_rt sl
    rw [nI_clamp (show bu_rt l < 2 ^ 31 by omega)] at this ⊢
    have hp : 0 < bu_rt l := by
      rcases Nat.eq_zero_or_pos (bu_rt l) with y | y
      · rw [y] at z; exact absurd rfl z
      · exact y
    rw [(he _ (hl _ (bu_rt_mem ((bu_sh_pos sl).mpr hp)))).2.2.2.2]; exact this
  · rw [e14] at z ⊢
    have := f3 z
    rw [k14] at this z ⊢
    have hr1 := bu_sh_rt sr
    rw [nI_clamp (show bu_rt r < 2 ^ 31 by omega)] at this ⊢
    have hp : 0 < bu_rt r := by
      rcases Nat.eq_zero_or_pos (bu_rt r) with y | y
      · rw [y] at z; exact absurd rfl z
      · exact y
    rw [(he _ (hr _ (bu_rt_mem ((bu_sh_pos sr).mpr hp)))).2.2.2.2]; exact this
theorem bu_ab_frame {a15 : Nat → Int32} {b15 : Nat → Int32} {B : bu_T} (h : bu_al (bu_ab a15) B) (he : ∀ x, x ∈ bu_ad B → x ≠ bu_rt B → b15 x = a15 x) (hn : (bu_ad B).Nodup) : bu_al (bu_ab b15) B := by
  induction B with
  | leaf _ => trivial
  | branch k l r ihl ihr =>
    simp only [bu_ad, List.nodup_cons, List.nodup_append, List.mem_append] at hn
    obtain ⟨n1, n2, n3, n4⟩ := hn
    have nk : ∀ x, x ∈ bu_ad l ∨ x ∈ bu_ad r → x ≠ k := fun x hx e => n1 (e ▸ hx)
    have e1 : ∀ x, x ∈ bu_ad l ∨ x ∈ bu_ad r → b15 x = a15 x := fun x hx => he x (by simp [bu_ad, hx]) (nk x hx)
    refine ⟨⟨fun z => ?_, fun z => ?_⟩, ihl h.2.1 (fun x hx _ => e1 x (Or.inl hx)) n2, ihr h.2.2 (fun x hx _ => e1 x (Or.inr hx)) n3⟩
    · rw [e1 _ (Or.inl (bu_rt_mem z))]; exact h.1.1 z
    · rw [e1 _ (Or.inr (bu_rt_mem z))]; exact h.1.2 z
end
section
/-! grow: one turn of its loop, then the loop -/
theorem bu_gstep {P s x y z i n c : Nat} {a7 a8 a9 a11 a12 a13 a14 a15 a16 a18 a20 : Nat → Int32} {a17 : Nat → Int64} (hP1 : 1 ≤ P) (hP : P ≤ 48) (hs : s ≤ 6) (hi : i < 32) (h18 : a18 i = nI s) (hx : x < 64)
    (hfr : ∀ {w h ru pa ro li : Int32} {a1 a2 a3 a4 a5 a6 a7 a8 a9 a10 a12 a13 a14 a15 a16 a18 a19 a20 a21 : Nat → Int32} {a17 : Nat → Int64} (post : Int32 → St1 → Prop), post (nI x) (w, h, ru, pa, ro, li, a1, a2, a3, a4, a5, a6, a7, a8, a9, a10, (upd a11 x 1), a12, a13, a14, a15, a16, a17, a18, a19, a20, a21) → wpX_freshNode post (w, h, ru, pa, ro, li, a1, a2, a3, a4, a5, a6, a7, a8, a9, a10, a11, a12, a13, a14, a15, a16, a17, a18, a19, a20, a21))
    (hn : n = c + bu_ar s) (hn64 : n ≤ 64) (hc : c < 64) (hy : y < 64) (hz : z < 64)
    (h1 : (bu_ar s = 0 ∧ y = 0) ∨ (1 ≤ bu_ar s ∧ a20 (n - 1) = nI y)) (h2 : (bu_ar s ≤ 1 ∧ z = 0) ∨ (bu_ar s = 2 ∧ a20 (n - 2) = nI z)) :
    ∃ v', (∀ q, 1 ≤ q → q < 64 → bu_bt v' (nI q) → q < P ∧ bu_ft a7 a8 a9 (upd a12 x (nI s)) (upd a13 x (nI y)) (upd a14 x (nI z)) a17 x q) ∧
      ∀ {w h ru ro li : Int32} {a1 a2 a3 a4 a5 a6 a10 a19 a21 : Nat → Int32} (post : Int32 → St1 → Prop) (N : Nat),
        wX_grow_9 post N (nI (c + 1)) (nI i + (-1)) w h ru (nI P) ro li a1 a2 a3 a4 a5 a6 a7 a8 a9 a10 (upd a11 x 1) (upd a12 x (nI s)) (upd a13 x (nI y)) (upd a14 x (nI z)) (upd (upd (upd a15 x 0) y (nI x)) z (nI x)) (upd a16 x ((1 + a16 y) + a16 z)) (vp_updL a17 x v') a18 a19 (upd a20 c (nI x)) a21 →
        wX_grow_9 post (N + 1) (nI n) (nI i) w h ru (nI P) ro li a1 a2 a3 a4 a5 a6 a7 a8 a9 a10 a11 a12 a13 a14 a15 a16 a17 a18 a19 a20 a21 := by
  obtain ⟨v', hv, hw⟩ := bu_work (P := P) (x := x) (a7 := a7) (a8 := a8) (a9 := a9) (a12 := upd a12 x (nI s)) (a13 := upd a13 x (nI y)) (a14 := upd a14 x (nI z)) (a16 := a16) (a17 := a17) hP1 hP hx (by rw [pk_us]; exact pk_in y 64 hy) (by rw [pk_us]; exact pk_in z 64 hz)
  refine ⟨v', hv, ?_⟩
  have e13 : (upd a13 x (nI y) x).toNatClampNeg = y := by rw [pk_us, nI_clamp (show y < 2 ^ 31 by omega)]
  have e14 : (upd a14 x (nI z) x).toNatClampNeg = z := by rw [pk_us, nI_clamp (show z < 2 ^ 31 by omega)]
  rw [e13, e14] at hw
  have ex : (nI x).toNatClampNeg = x := nI_clamp (show x < 2 ^ 31 by omega)
  have har := bu_ar_le s
  intro w h ru ro li a1 a2 a3 a4 a5 a6 a10 a19 a21 post N hJ
  have h89 : wX_grow_89 post (wX_grow_9 post N) (nI n) (nI i) (nI (bu_ar s)) (nI x) (nI z) (nI x) w h ru (nI P) ro li a1 a2 a3 a4 a5 a6 a7 a8 a9 a10 (upd a11 x 1) (upd a12 x (nI s)) (upd a13 x (nI y)) a14 a15 a16 a17 a18 a19 a20 a21 := by
    unfold wX_grow_89
    rw [ex, e13]
    refine ⟨pk_in x 64 hx, nm_e ⟨pk_in x 64 hx, nm_e ⟨pk_in x 64 hx, by rw [pk_us]; exact pk_in y 64 hy, nm_e ⟨pk_in x 64 hx, by rw [pk_us]; exact pk_in z 64 hz, nm_r (e' := upd (upd (upd a15 x 0) y (nI x)) z (nI x)) (by rw [e14]) (hw _ ?_)⟩⟩⟩⟩
    dsimp only
    refine nm_r (e' := nI c) (by rw [hn, pk_sub (by omega)]; congr 1; omega) ⟨pk_in c 64 hc, nm_r (e' := upd a20 c (nI x)) (by rw [nI_clamp (show c < 2 ^ 31 by omega)]) (nm_r (nI_1 c) (nm_e hJ))⟩
  have h65 : wX_grow_65 post (wX_grow_9 post N) (nI n) (nI i) (nI (bu_ar s)) (nI x) (nI y) (nI x) w h ru (nI P) ro li a1 a2 a3 a4 a5 a6 a7 a8 a9 a10 (upd a11 x 1) (upd a12 x (nI s)) a13 a14 a15 a16 a17 a18 a19 a20 a21 := by
    unfold wX_grow_65
    rw [ex]
    refine ⟨pk_in x 64 hx, nm_e ?_⟩
    rcases h2 with ⟨e, ez⟩ | ⟨e, ez⟩
    · subst ez
      exact br_t (nI_le (b := 1) e (by decide)) h89
    · refine br_f (nI_ge (a := 1) (b := bu_ar s) (by omega) (by omega)) ?_
      have e2 : nI n - 2 = nI (n - 2) := pk_sub (a := n) (b := 2) (by omega)
      rw [e2, nI_clamp (show n - 2 < 2 ^ 31 by omega), ez]
      exact ⟨pk_in (n - 2) 64 (by omega), h89⟩
  refine br_f (nI_pos (by omega)) ⟨pk_in i 32 hi, ?_⟩
  rw [nI_clamp (show i < 2 ^ 31 by omega), h18]
  refine bu_parts (by omega) (hfr _ ?_)
  dsimp only
  refine ⟨pk_in i 32 hi, pk_in x 64 hx, nm_r (e' := upd a12 x (nI s)) (by rw [ex, h18]) ?_⟩
  rcases h1 with ⟨e, ey⟩ | ⟨e, ey⟩
  · subst ey
    exact br_t (nI_le (a := bu_ar s) (b := 0) (by omega) (by decide)) h65
  · refine br_f (nI_ge (a := 0) (b := bu_ar s) (by omega) (by omega)) ?_
    have e2 : nI n - 1 = nI (n - 1) := pk_sub (a := n) (b := 1) (by omega)
    rw [e2, nI_clamp (show n - 1 < 2 ^ 31 by omega), ey]
    exact ⟨pk_in (n - 1) 64 (by omega), h65⟩

/-- a pile of trees, the head on top -/
def bu_pl (p : Nat → Int32) : List bu_T → Prop
  | [] => True
  | B :: st => p st.length = nI (bu_rt B) ∧ bu_pl p st
def bu_fl : List bu_T → List Nat
  | [] => []
  | B :: st => bu_ad B ++ bu_fl st
theorem bu_pl_upd {p : Nat → Int32} {x : Int32} {m : Nat} {st : List bu_T} (h : bu_pl p st) (hm : st.length ≤ m) : bu_pl (upd p m x) st := by
  induction st with
  | nil => trivial
  | cons B st ih =>
    simp only [List.length_cons] at hm
    exact ⟨by rw [pk_un (by omega)]; exact h.1, ih h.2 (by omega)⟩
theorem bu_fl_mem {st : List bu_T} {B : bu_T} {x : Nat} (hB : B ∈ st) (hx : x ∈ bu_ad B) : x ∈ bu_fl st := by
  induction st with
  | nil => simp at hB
  | cons C st ih =>
    rcases List.mem_cons.mp hB with e | e
    · subst e; simp [bu_fl, hx]
    · simp [bu_fl, ih e]
theorem bu_fl_nd {st : List bu_T} {B : bu_T} (h : (bu_fl st).Nodup) (hB : B ∈ st) : (bu_ad B).Nodup := by
  induction st with
  | nil => simp at hB
  | cons C st ih =>
    simp only [bu_fl, List.nodup_append] at h
    rcases List.mem_cons.mp hB with e | e
    · subst e; exact h.1
    · exact ih h.2.1 e
theorem bu_tm_uni {l : List Nat} {c d : Nat} (h : bu_tm l c) (g : bu_tm l d) : c = d := by
  induction l generalizing c d with
  | nil => simp only [bu_tm] at h g; omega
  | cons s l ih =>
    obtain ⟨m, rfl, h⟩ := h
    obtain ⟨m', rfl, g⟩ := g
    have := ih h g
    omega
theorem bu_split {s m : Nat} {st : List bu_T} {p : Nat → Int32} (hs : st.length = m + bu_ar s) (hp : bu_pl p st) (hne : ∀ B, B ∈ st → 0 < bu_sz B) :
    ∃ l r st', bu_as s l r ∧ st'.length = m ∧ bu_fl st = bu_ad l ++ (bu_ad r ++ bu_fl st') ∧ (∀ B, B ∈ st' → B ∈ st) ∧ (0 < bu_sz l → l ∈ st) ∧ (0 < bu_sz r → r ∈ st) ∧ bu_pl p st' ∧
      ((bu_ar s = 0 ∧ bu_rt l = 0) ∨ (1 ≤ bu_ar s ∧ p (m + bu_ar s - 1) = nI (bu_rt l))) ∧ ((bu_ar s ≤ 1 ∧ bu_rt r = 0) ∨ (bu_ar s = 2 ∧ p (m + bu_ar s - 2) = nI (bu_rt r))) := by
  have har := bu_ar_le s
  have hc : bu_ar s = 0 ∨ bu_ar s = 1 ∨ bu_ar s = 2 := by omega
  rcases hc with e | e | e
  · refine ⟨.leaf (), .leaf (), st, ⟨by rw [e]; rfl, by simp [bu_b]⟩, by omega, by simp [bu_ad], fun _ h => h, fun z => by simp [bu_sz] at z, fun z => by simp [bu_sz] at z, hp, Or.inl ⟨e, rfl⟩, Or.inl ⟨by omega, rfl⟩⟩
  · cases st with
    | nil => simp at hs; omega
    | cons l st =>
      have hl := hne l (by simp)
      simp only [List.length_cons] at hs
      refine ⟨l, .leaf (), st, ⟨by rw [e, bu_sz_b.mp hl]; rfl, by simp [bu_b]⟩, by omega, by simp [bu_ad, bu_fl], fun _ h => List.mem_cons_of_mem _ h, fun _ => by simp, fun z => by simp [bu_sz] at z, hp.2, Or.inr ⟨by omega, ?_⟩, Or.inl ⟨by omega, rfl⟩⟩
      rw [show m + bu_ar s - 1 = st.length by omega]; exact hp.1
  · cases st with
    | nil => simp at hs; omega
    | cons l st =>
      cases st with
      | nil => simp at hs; omega
      | cons r st =>
        have hl := hne l (by simp)
        have hr := hne r (by simp)
        simp only [List.length_cons] at hs
        refine ⟨l, r, st, ⟨by rw [e, bu_sz_b.mp hl, bu_sz_b.mp hr], by rw [bu_sz_b.mp hl, bu_sz_b.mp hr]; exact Nat.le_refl 1⟩, by omega, by simp [bu_fl], fun _ h => List.mem_cons_of_mem _ (List.mem_cons_of_mem _ h), fun _ => by simp, fun _ => by simp, hp.2.2, Or.inr ⟨by omega, ?_⟩, Or.inr ⟨by omega, ?_⟩⟩
        · have := hp.1
          simp only [List.length_cons] at this
          rw [show m + bu_ar s - 1 = st.length + 1 by omega]; exact this
        · rw [show m + bu_ar s - 2 = st.length by omega]; exact hp.2.1
end
section
/-! grow: the loop -/
def bu_gi (P : Nat) (a7 a8 a9 : Nat → Int32) (U : List Nat) (st : List bu_T) (a11 a12 a13 a14 a15 a16 : Nat → Int32) (a17 : Nat → Int64) : Prop :=
  (∀ B, B ∈ st → 0 < bu_sz B ∧ bu_al (bu_ok P a7 a8 a9 a12 a13 a14 a16 a17) B ∧ bu_al (bu_ab a15) B ∧ a15 (bu_rt B) = 0) ∧ (bu_fl st ++ U).Nodup ∧ bu_us a11 (bu_fl st ++ U) ∧ a16 0 = 0 ∧ 0 ∉ U
theorem bu_pick {Q : bu_T → Prop} {C : bu_T} (h0 : ∀ u, Q (.leaf u)) (h : 0 < bu_sz C → Q C) : Q C := by
  cases C with
  | leaf u => exact h0 u
  | branch k l r => exact h (by show 0 < 1 + bu_sz l + bu_sz r; omega)
theorem bu_rt_or (C : bu_T) : bu_rt C = 0 ∨ bu_rt C ∈ bu_ad C := by
  cases C with
  | leaf u => exact Or.inl rfl
  | branch k l r => exact Or.inr (by simp [bu_rt, bu_ad])
theorem bu_gnew {P : Nat} {a7 a8 a9 a11 a12 a13 a14 a15 a16 : Nat → Int32} {a17 : Nat → Int64} {U : List Nat} {st st' : List bu_T} {l r : bu_T} {s x : Nat} {v : Int64}
    (h : bu_gi P a7 a8 a9 U st a11 a12 a13 a14 a15 a16 a17) (has : bu_as s l r) (hf : bu_fl st = bu_ad l ++ (bu_ad r ++ bu_fl st')) (hst : ∀ B, B ∈ st' → B ∈ st) (hl : 0 < bu_sz l → l ∈ st) (hr : 0 < bu_sz r → r ∈ st)
    (hx0 : 0 < x) (hx : x < 64) (hxn : x ∉ bu_fl st ++ U) (hs : s ≤ 6)
    (hv : ∀ q, 1 ≤ q → q < 64 → bu_bt v (nI q) → q < P ∧ bu_ft a7 a8 a9 (upd a12 x (nI s)) (upd a13 x (nI (bu_rt l))) (upd a14 x (nI (bu_rt r))) a17 x q) :
    bu_gi P a7 a8 a9 U (.branch x l r :: st') (upd a11 x 1) (upd a12 x (nI s)) (upd a13 x (nI (bu_rt l))) (upd a14 x (nI (bu_rt r))) (upd (upd (upd a15 x 0) (bu_rt l) (nI x)) (bu_rt r) (nI x)) (upd a16 x ((1 + a16 (bu_rt l)) + a16 (bu_rt r))) (vp_updL a17 x v) ∧
    (∀ u, u ∈ U → upd (upd (upd a15 x 0) (bu_rt l) (nI x)) (bu_rt r) (nI x) u = a15 u) ∧ (∀ u, u ∈ U → u ≠ x) ∧ (bu_fl (.branch x l r :: st')).length = (bu_fl st).length + 1 := by
  obtain ⟨h1, h2, h3, h4, h5⟩ := h
  have efl : bu_fl (.branch x l r :: st') = x :: bu_fl st := by
    show (x :: (bu_ad l ++ bu_ad r)) ++ bu_fl st' = x :: bu_fl st
    rw [hf, List.cons_append, List.append_assoc]
  have okl : bu_al (bu_ok P a7 a8 a9 a12 a13 a14 a16 a17) l := bu_pick (C := l) (fun _ => trivial) (fun z => (h1 l (hl z)).2.1)
  have okr : bu_al (bu_ok P a7 a8 a9 a12 a13 a14 a16 a17) r := bu_pick (C := r) (fun _ => trivial) (fun z => (h1 r (hr z)).2.1)
  have abl : bu_al (bu_ab a15) l := bu_pick (C := l) (fun _ => trivial) (fun z => (h1 l (hl z)).2.2.1)
  have abr : bu_al (bu_ab a15) r := bu_pick (C := r) (fun _ => trivial) (fun z => (h1 r (hr z)).2.2.1)
  have shl := bu_nd_sh (bu_ok_nd okl)
  have shr := bu_nd_sh (bu_ok_nd okr)
  rw [hf] at hxn h2
  simp only [List.mem_append, not_or] at hxn
  obtain ⟨⟨x1, x2, x3⟩, x4⟩ := hxn
  simp only [List.append_assoc] at h2
  rw [List.nodup_append] at h2
  obtain ⟨n1, h2, d1⟩ := h2
  rw [List.nodup_append] at h2
  obtain ⟨n2, h2, d2⟩ := h2
  rw [List.nodup_append] at h2
  obtain ⟨n3, n4, d3⟩ := h2
  have xl : x ≠ bu_rt l := by
    rcases bu_rt_or l with e | e
    · omega
    · exact fun z => x1 (z ▸ e)
  have xr : x ≠ bu_rt r := by
    rcases bu_rt_or r with e | e
    · omega
    · exact fun z => x2 (z ▸ e)
  have e15 : ∀ u, u ≠ x → u ≠ bu_rt l → u ≠ bu_rt r → upd (upd (upd a15 x 0) (bu_rt l) (nI x)) (bu_rt r) (nI x) u = a15 u := fun u g1 g2 g3 => by rw [pk_un g3, pk_un g2, pk_un g1]
  have frame : ∀ {C : bu_T}, bu_al (bu_ok P a7 a8 a9 a12 a13 a14 a16 a17) C → x ∉ bu_ad C → bu_al (bu_ok P a7 a8 a9 (upd a12 x (nI s)) (upd a13 x (nI (bu_rt l))) (upd a14 x (nI (bu_rt r))) (upd a16 x ((1 + a16 (bu_rt l)) + a16 (bu_rt r))) (vp_updL a17 x v)) C := by
    intro C hC hn
    refine bu_ok_frame hC (fun u hu => ?_)
    have g : u ≠ x := fun z => hn (z ▸ hu)
    exact ⟨pk_un g, pk_un g, pk_un g, pk_un g, pk_uLn g⟩
  have nl0 : ∀ u, u ∈ bu_ad l → 0 < u := fun u hu => (bu_sh_ad shl hu).1
  have nr0 : ∀ u, u ∈ bu_ad r → 0 < u := fun u hu => (bu_sh_ad shr hu).1
  have rtl : ∀ u, 0 < u → u ∉ bu_ad l → u ≠ bu_rt l := by
    intro u u0 un z
    rcases bu_rt_or l with e | e
    · omega
    · exact un (z ▸ e)
  have rtr : ∀ u, 0 < u → u ∉ bu_ad r → u ≠ bu_rt r := by
    intro u u0 un z
    rcases bu_rt_or r with e | e
    · omega
    · exact un (z ▸ e)
  have U0 : ∀ u, u ∈ U → 0 < u := by
    intro u hu
    rcases Nat.eq_zero_or_pos u with e | e
    · exact absurd (e ▸ hu) h5
    · exact e
  refine ⟨⟨?_, ?_, ?_, ?_, h5⟩, ?_, ?_, ?_⟩
  · intro B hB
    rcases List.mem_cons.mp hB with e | hB
    · subst e
      refine ⟨by show 0 < 1 + bu_sz l + bu_sz r; omega, ⟨⟨⟨⟨hx0, hx, pk_us, pk_us⟩, s, hs, pk_us, has⟩, ?_, ?_⟩, frame okl x1, frame okr x2⟩, ⟨⟨fun z => ?_, fun z => pk_us⟩, ?_, ?_⟩, ?_⟩
      · rw [pk_us, bu_ok_size okl h4, bu_ok_size okr h4]
        show nI 1 + _ + _ = _
        rw [nI_add, nI_add]
      · intro q q1 q2 hq
        rw [pk_uLs] at hq
        obtain ⟨f0, f1, f2, f3⟩ := hv q q1 q2 hq
        refine ⟨f0, f1, fun z => ?_, fun z => ?_⟩
        · have t := f2 z
          rw [pk_us, nI_clamp (show bu_rt l < 2 ^ 31 by have := bu_sh_rt shl; omega)] at t ⊢
          rw [pk_uLn xl.symm]; exact t
        · have t := f3 z
          rw [pk_us, nI_clamp (show bu_rt r < 2 ^ 31 by have := bu_sh_rt shr; omega)] at t ⊢
          rw [pk_uLn xr.symm]; exact t
      · by_cases e : bu_rt l = bu_rt r
        · rw [e, pk_us]
        · rw [pk_un e, pk_us]
      · exact bu_ab_frame abl (fun u hu hne => e15 u (fun z => x1 (z ▸ hu)) hne (rtr u (nl0 u hu) (fun z => d1 u hu u (by simp [z]) rfl))) n1
      · exact bu_ab_frame abr (fun u hu hne => e15 u (fun z => x2 (z ▸ hu)) (rtl u (nr0 u hu) (fun z => d1 u z u (by simp [hu]) rfl)) hne) n2
      · show upd (upd (upd a15 x 0) (bu_rt l) (nI x)) (bu_rt r) (nI x) x = 0
        rw [pk_un xr, pk_un xl, pk_us]
    · obtain ⟨g1, g2, g3, g4⟩ := h1 B (hst B hB)
      have inB : ∀ u, u ∈ bu_ad B → u ∈ bu_fl st' := fun u hu => bu_fl_mem hB hu
      have shB := bu_nd_sh (bu_ok_nd g2)
      have eB : ∀ u, u ∈ bu_ad B → upd (upd (upd a15 x 0) (bu_rt l) (nI x)) (bu_rt r) (nI x) u = a15 u := fun u hu =>
        e15 u (fun z => x3 (z ▸ inB u hu)) (rtl u (bu_sh_ad shB hu).1 (fun z => d1 u z u (by simp [inB u hu]) rfl)) (rtr u (bu_sh_ad shB hu).1 (fun z => d2 u z u (by simp [inB u hu]) rfl))
      refine ⟨g1, frame g2 (fun z => x3 (inB x z)), bu_ab_frame g3 (fun u hu _ => eB u hu) (bu_fl_nd n3 hB), ?_⟩
      rw [eB _ (bu_rt_mem g1)]; exact g4
  · rw [efl, List.cons_append, List.nodup_cons, hf]
    refine ⟨?_, ?_⟩
    · simp only [List.mem_append, not_or]; exact ⟨⟨x1, x2, x3⟩, x4⟩
    · simp only [List.append_assoc]
      rw [List.nodup_append]
      refine ⟨n1, ?_, d1⟩
      rw [List.nodup_append]
      refine ⟨n2, ?_, d2⟩
      rw [List.nodup_append]
      exact ⟨n3, n4, d3⟩
  · rw [efl]
    exact bu_us_add h3
  · rw [pk_un (by omega)]; exact h4
  · intro u hu
    exact e15 u (fun z => x4 (z ▸ hu)) (rtl u (U0 u hu) (fun z => d1 u z u (by simp [hu]) rfl)) (rtr u (U0 u hu) (fun z => d2 u z u (by simp [hu]) rfl))
  · intro u hu z
    exact x4 (z ▸ hu)
  · rw [efl]; rfl

theorem bu_fl_len {st : List bu_T} (h : ∀ B, B ∈ st → 0 < bu_sz B) : st.length ≤ (bu_fl st).length := by
  induction st with
  | nil => simp
  | cons B st ih =>
    have h1 := ih (fun C hC => h C (List.mem_cons_of_mem _ hC))
    have h2 := h B (by simp)
    simp only [bu_fl, List.length_append, List.length_cons, bu_len]
    omega
theorem bu_gloop {P : Nat} {a7 a8 a9 a18 : Nat → Int32} {U : List Nat} (hP1 : 1 ≤ P) (hP : P ≤ 48) (rp : List Nat) : ∀ (suf : List Nat) (st : List bu_T) (a11 a12 a13 a14 a15 a16 a20 : Nat → Int32) (a17 : Nat → Int64),
    (∀ s, s ∈ rp → s ≤ 6) → bu_at a18 0 (rp.reverse ++ suf) → rp.length + suf.length ≤ 31 → U.length + (rp.length + suf.length) ≤ 62 → bu_tm (rp.reverse ++ suf) 1 → bu_tm suf st.length → bu_pl a20 st → (bu_fl st).length = suf.length → bu_gi P a7 a8 a9 U st a11 a12 a13 a14 a15 a16 a17 →
    ∃ (B : bu_T) (b11 b12 b13 b14 b15 b16 b20 : Nat → Int32) (b17 : Nat → Int64), bu_gi P a7 a8 a9 U [B] b11 b12 b13 b14 b15 b16 b17 ∧ bu_sz B = rp.length + suf.length ∧ (∀ u, u ∈ U → b12 u = a12 u ∧ b13 u = a13 u ∧ b14 u = a14 u ∧ b15 u = a15 u ∧ b16 u = a16 u ∧ b17 u = a17 u) ∧
      ∀ {w h ru ro li : Int32} {a1 a2 a3 a4 a5 a6 a10 a19 a21 : Nat → Int32} (post : Int32 → St1 → Prop), post (nI (bu_rt B)) (w, h, ru, (nI P), ro, li, a1, a2, a3, a4, a5, a6, a7, a8, a9, a10, b11, b12, b13, b14, b15, b16, b17, a18, a19, b20, a21) →
        wX_grow_9 post (rp.length + 1) (nI st.length) (nI rp.length + (-1)) w h ru (nI P) ro li a1 a2 a3 a4 a5 a6 a7 a8 a9 a10 a11 a12 a13 a14 a15 a16 a17 a18 a19 a20 a21 := by
  induction rp with
  | nil =>
    intro suf st a11 a12 a13 a14 a15 a16 a20 a17 _ _ _ _ t1 t2 hpl hfl hg
    have e1 : st.length = 1 := bu_tm_uni t2 t1
    obtain ⟨B, rfl⟩ : ∃ B, st = [B] := by
      cases st with
      | nil => simp at e1
      | cons B st => cases st with
        | nil => exact ⟨B, rfl⟩
        | cons C st => simp at e1
    obtain ⟨h1, h2, h3, h4, h5⟩ := hg
    obtain ⟨g1, g2, g3, g4⟩ := h1 B (by simp)
    have shB := bu_nd_sh (bu_ok_nd g2)
    have e15 : ∀ u, 0 < u → upd a15 0 0 u = a15 u := fun u hu => pk_un (by omega)
    have nB : (bu_ad B).Nodup := bu_fl_nd (st := [B]) (by rw [List.nodup_append] at h2; exact h2.1) (by simp)
    refine ⟨B, a11, a12, a13, a14, upd a15 0 0, a16, a20, a17, ⟨?_, h2, h3, h4, h5⟩, ?_, ?_, ?_⟩
    · intro C hC
      rw [List.mem_singleton] at hC
      subst hC
      exact ⟨g1, g2, bu_ab_frame g3 (fun u hu _ => e15 u (bu_sh_ad shB hu).1) nB, by rw [e15 _ ((bu_sh_pos shB).mp g1)]; exact g4⟩
    · have : (bu_ad B).length = suf.length := by rw [← hfl]; simp [bu_fl]
      rw [← bu_len, this]; simp
    · intro u hu
      refine ⟨rfl, rfl, rfl, e15 u ?_, rfl, rfl⟩
      rcases Nat.eq_zero_or_pos u with e | e
      · exact absurd (e ▸ hu) h5
      · exact e
    · intros; rename_i post hp
      have e0 : a20 0 = nI (bu_rt B) := hpl.1
      rw [← e0] at hp
      exact br_t (by decide) (nm_e hp)
  | cons s rp ih =>
    intro suf st a11 a12 a13 a14 a15 a16 a20 a17 hs hat hl hU t1 t2 hpl hfl hg
    rw [List.reverse_cons, List.append_assoc, List.singleton_append] at hat t1
    simp only [List.length_cons] at hl hU
    have hs6 : s ≤ 6 := hs s (by simp)
    obtain ⟨d, m, _, t3⟩ := bu_tm_sfx t1
    have em : st.length = m + bu_ar s := bu_tm_uni t2 t3
    have h18 : a18 rp.length = nI s := by
      have := (bu_at_app.mp hat).2.1
      rw [Nat.zero_add, List.length_reverse] at this; exact this
    obtain ⟨h1, h2, h3, h4, h5⟩ := hg
    have hstl : st.length ≤ 31 := by
      have : st.length ≤ (bu_fl st).length := bu_fl_len (fun B hB => (h1 B hB).1)
      omega
    obtain ⟨x, x0, x1, xn, hfr⟩ := bu_fresh h3 (by rw [List.length_append, hfl]; omega)
    obtain ⟨l, r, st', has, hm, hf, hsub, hlm, hrm, hpl', c1, c2⟩ := bu_split em hpl (fun B hB => (h1 B hB).1)
    have okl : bu_al (bu_sh a13 a14) l := bu_pick (C := l) (fun _ => trivial) (fun z => bu_nd_sh (bu_ok_nd (h1 l (hlm z)).2.1))
    have okr : bu_al (bu_sh a13 a14) r := bu_pick (C := r) (fun _ => trivial) (fun z => bu_nd_sh (bu_ok_nd (h1 r (hrm z)).2.1))
    obtain ⟨v, hv, hw⟩ := bu_gstep (P := P) (s := s) (x := x) (y := bu_rt l) (z := bu_rt r) (i := rp.length) (n := m + bu_ar s) (c := m) (a7 := a7) (a8 := a8) (a9 := a9) (a11 := a11) (a12 := a12) (a13 := a13) (a14 := a14) (a15 := a15) (a16 := a16) (a17 := a17) (a18 := a18) (a20 := a20) hP1 hP hs6 (by omega) h18 x1 hfr rfl (by omega) (by omega) (bu_sh_rt okl) (bu_sh_rt okr) c1 c2
    obtain ⟨hg', hU15, hUx, hlen⟩ := bu_gnew ⟨h1, h2, h3, h4, h5⟩ has hf hsub hlm hrm x0 x1 xn hs6 hv
    obtain ⟨B, b11, b12, b13, b14, b15, b16, b20, b17, i1, i2, i3, i4⟩ := ih (s :: suf) (.branch x l r :: st') _ _ _ _ _ _ (upd a20 m (nI x)) _ (fun s' h' => hs s' (by simp [h'])) hat (by simp only [List.length_cons]; omega) (by simp only [List.length_cons]; omega) t1
      (by simp only [List.length_cons]; rw [hm]; exact ⟨m, rfl, t3⟩) ⟨by rw [hm]; exact pk_us, bu_pl_upd hpl' (by omega)⟩ (by rw [hlen, hfl]; rfl) hg'
    refine ⟨B, b11, b12, b13, b14, b15, b16, b20, b17, i1, by rw [i2]; simp only [List.length_cons]; omega, ?_, ?_⟩
    · intro u hu
      obtain ⟨j1, j2, j3, j4, j5, j6⟩ := i3 u hu
      have g := hUx u hu
      exact ⟨by rw [j1, pk_un g], by rw [j2, pk_un g], by rw [j3, pk_un g], by rw [j4]; exact hU15 u hu, by rw [j5, pk_un g], by rw [j6, pk_uLn g]⟩
    · intro w h ru ro li a1 a2 a3 a4 a5 a6 a10 a19 a21 post hp
      have t := i4 post hp
      simp only [List.length_cons] at t ⊢
      rw [hm] at t
      rw [em, pk_m1]
      exact hw post (rp.length + 1) t

/-- grow: a new tree of the term lined up -/
theorem bu_grow {P : Nat} {a7 a8 a9 a11 a12 a13 a14 a15 a16 a18 a20 : Nat → Int32} {a17 : Nat → Int64} {U ln : List Nat} (hP1 : 1 ≤ P) (hP : P ≤ 48) (hs : ∀ s, s ∈ ln → s ≤ 6) (hat : bu_at a18 0 ln) (hl : ln.length ≤ 31) (hU : U.length ≤ 31) (ht : bu_tm ln 1) (hn : U.Nodup) (hus : bu_us a11 U) (h16 : a16 0 = 0) (h0 : 0 ∉ U) :
    ∃ (B : bu_T) (b11 b12 b13 b14 b15 b16 b20 : Nat → Int32) (b17 : Nat → Int64), bu_gi P a7 a8 a9 U [B] b11 b12 b13 b14 b15 b16 b17 ∧ bu_sz B = ln.length ∧ (∀ u, u ∈ U → b12 u = a12 u ∧ b13 u = a13 u ∧ b14 u = a14 u ∧ b15 u = a15 u ∧ b16 u = a16 u ∧ b17 u = a17 u) ∧
      ∀ {w h ru ro : Int32} {a1 a2 a3 a4 a5 a6 a10 a19 a21 : Nat → Int32} (post : Int32 → St1 → Prop), post (nI (bu_rt B)) (w, h, ru, (nI P), ro, (nI ln.length), a1, a2, a3, a4, a5, a6, a7, a8, a9, a10, b11, b12, b13, b14, b15, b16, b17, a18, a19, b20, a21) →
        wpX_grow post (w, h, ru, (nI P), ro, (nI ln.length), a1, a2, a3, a4, a5, a6, a7, a8, a9, a10, a11, a12, a13, a14, a15, a16, a17, a18, a19, a20, a21) := by
  obtain ⟨B, b11, b12, b13, b14, b15, b16, b20, b17, i1, i2, i3, i4⟩ := bu_gloop (P := P) (a7 := a7) (a8 := a8) (a9 := a9) (a18 := a18) (U := U) hP1 hP ln.reverse [] [] a11 a12 a13 a14 a15 a16 a20 a17 (fun s h => hs s (by simpa using h)) (by simpa using hat) (by simpa using hl) (by simp; omega) (by simpa using ht) rfl trivial rfl ⟨fun B hB => by simp at hB, by simpa [bu_fl] using hn, by simpa [bu_fl] using hus, h16, h0⟩
  refine ⟨B, b11, b12, b13, b14, b15, b16, b20, b17, i1, by simpa using i2, i3, ?_⟩
  intro w h ru ro a1 a2 a3 a4 a5 a6 a10 a19 a21 post hp
  have t := i4 post hp
  rw [List.length_reverse] at t
  exact nm_r (by rw [Int32.sub_eq_add_neg]) ⟨ln.length + 1, t⟩
end
section
/-! contexts: a tree with a part of it taken out -/
def bu_f1 (e : Nat × Bool × bu_T) (t : bu_T) : bu_T := match e with
  | (k, true, r) => .branch k t r
  | (k, false, l) => .branch k l t
def bu_pg : List (Nat × Bool × bu_T) → bu_T → bu_T
  | [], t => t
  | e :: c, t => bu_pg c (bu_f1 e t)
def bu_ca : List (Nat × Bool × bu_T) → List Nat
  | [] => []
  | e :: c => (e.1 :: bu_ad e.2.2) ++ bu_ca c
def bu_pk : List (Nat × Bool × bu_T) → Nat
  | [] => 0
  | e :: _ => e.1
theorem bu_f1_rt (e : Nat × Bool × bu_T) (t : bu_T) : bu_rt (bu_f1 e t) = e.1 := by
  obtain ⟨k, b, s⟩ := e; cases b <;> rfl
theorem bu_f1_sz (e : Nat × Bool × bu_T) (t : bu_T) : 0 < bu_sz (bu_f1 e t) := by
  obtain ⟨k, b, s⟩ := e; cases b <;> (simp only [bu_f1, bu_sz]; omega)
theorem bu_f1_b (e : Nat × Bool × bu_T) (t : bu_T) : bu_b (bu_f1 e t) = 1 := by
  obtain ⟨k, b, s⟩ := e; cases b <;> rfl
theorem bu_f1_al {P : Nat → bu_T → bu_T → Prop} {e : Nat × Bool × bu_T} {t : bu_T} (h : bu_al P (bu_f1 e t)) : bu_al P t ∧ bu_al P e.2.2 := by
  obtain ⟨k, b, s⟩ := e
  cases b
  · exact ⟨h.2.2, h.2.1⟩
  · exact ⟨h.2.1, h.2.2⟩
theorem bu_f1_perm (e : Nat × Bool × bu_T) (t : bu_T) : List.Perm (bu_ad (bu_f1 e t)) (bu_ad t ++ (e.1 :: bu_ad e.2.2)) := by
  obtain ⟨k, b, s⟩ := e
  cases b
  · exact (List.Perm.cons k List.perm_append_comm).trans List.perm_middle.symm
  · exact List.perm_middle.symm
theorem bu_pg_perm (c : List (Nat × Bool × bu_T)) : ∀ t, List.Perm (bu_ad (bu_pg c t)) (bu_ad t ++ bu_ca c) := by
  induction c with
  | nil => intro t; simp only [bu_pg, bu_ca, List.append_nil]; exact List.Perm.refl _
  | cons e c ih =>
    intro t
    refine (ih (bu_f1 e t)).trans ?_
    have := List.Perm.append_right (bu_ca c) (bu_f1_perm e t)
    rw [List.append_assoc] at this
    exact this
theorem bu_pg_sz (c : List (Nat × Bool × bu_T)) (t : bu_T) : bu_sz (bu_pg c t) = bu_sz t + (bu_ca c).length := by
  have := (bu_pg_perm c t).length_eq
  rw [bu_len, List.length_append, bu_len] at this; exact this
theorem bu_ca_len (c : List (Nat × Bool × bu_T)) : c.length ≤ (bu_ca c).length := by
  induction c with
  | nil => simp
  | cons e c ih => simp only [bu_ca, List.length_append, List.length_cons]; omega
theorem bu_pg_al {P : Nat → bu_T → bu_T → Prop} (c : List (Nat × Bool × bu_T)) : ∀ t, bu_al P (bu_pg c t) → bu_al P t ∧ ∀ e, e ∈ c → bu_al P e.2.2 := by
  induction c with
  | nil => intro t h; exact ⟨h, fun e he => by simp at he⟩
  | cons e c ih =>
    intro t h
    obtain ⟨h1, h2⟩ := ih _ h
    obtain ⟨h3, h4⟩ := bu_f1_al h1
    refine ⟨h3, fun e' he => ?_⟩
    rcases List.mem_cons.mp he with z | z
    · rw [z]; exact h4
    · exact h2 e' z
theorem bu_pg_app (c : List (Nat × Bool × bu_T)) (e : Nat × Bool × bu_T) : ∀ t, bu_pg (c ++ [e]) t = bu_f1 e (bu_pg c t) := by
  induction c with
  | nil => intro t; rfl
  | cons e' c ih => intro t; exact ih _
theorem bu_pg_rt (c : List (Nat × Bool × bu_T)) : ∀ t t', bu_rt t = bu_rt t' → bu_rt (bu_pg c t) = bu_rt (bu_pg c t') := by
  induction c with
  | nil => intro t t' h; exact h
  | cons e c ih => intro t t' _; exact ih _ _ (by rw [bu_f1_rt, bu_f1_rt])
theorem bu_find {A : bu_T} {x : Nat} (hx : x ∈ bu_ad A) : ∃ c X, A = bu_pg c X ∧ bu_rt X = x ∧ 0 < bu_sz X := by
  induction A with
  | leaf _ => simp [bu_ad] at hx
  | branch k l r ihl ihr =>
    simp only [bu_ad, List.mem_cons, List.mem_append] at hx
    rcases hx with e | e | e
    · exact ⟨[], .branch k l r, rfl, e.symm, by show 0 < 1 + bu_sz l + bu_sz r; omega⟩
    · obtain ⟨c, X, h1, h2, h3⟩ := ihl e
      exact ⟨c ++ [(k, true, r)], X, by rw [bu_pg_app, ← h1]; rfl, h2, h3⟩
    · obtain ⟨c, X, h1, h2, h3⟩ := ihr e
      exact ⟨c ++ [(k, false, l)], X, by rw [bu_pg_app, ← h1]; rfl, h2, h3⟩
theorem bu_ca_mem {c : List (Nat × Bool × bu_T)} {e : Nat × Bool × bu_T} (he : e ∈ c) : e.1 ∈ bu_ca c ∧ ∀ u, u ∈ bu_ad e.2.2 → u ∈ bu_ca c := by
  induction c with
  | nil => simp at he
  | cons e' c ih =>
    rcases List.mem_cons.mp he with z | z
    · rw [z]; exact ⟨by simp [bu_ca], fun u hu => by simp [bu_ca, hu]⟩
    · exact ⟨by simp [bu_ca, (ih z).1], fun u hu => by simp [bu_ca, (ih z).2 u hu]⟩
/-- a part is the child of what stands ahead in its context -/
theorem bu_pg_up {a15 : Nat → Int32} {c : List (Nat × Bool × bu_T)} {t : bu_T} (h : bu_al (bu_ab a15) (bu_pg c t)) (h0 : a15 (bu_rt (bu_pg c t)) = 0) (ht : 0 < bu_sz t) : a15 (bu_rt t) = nI (bu_pk c) := by
  cases c with
  | nil => exact h0
  | cons e c =>
    have h1 := (bu_pg_al c _ h).1
    obtain ⟨k, b, s⟩ := e
    cases b
    · exact h1.1.2 ht
    · exact h1.1.1 ht
theorem bu_ab_eq {a15 : Nat → Int32} {b15 : Nat → Int32} {B : bu_T} (h : bu_al (bu_ab a15) B) (he : ∀ x, x ∈ bu_ad B → b15 x = a15 x) : bu_al (bu_ab b15) B := by
  refine bu_al_mono h (fun k l r _ hl hr z => ⟨fun g => ?_, fun g => ?_⟩)
  · rw [he _ (hl _ (bu_rt_mem g))]; exact z.1 g
  · rw [he _ (hr _ (bu_rt_mem g))]; exact z.2 g
/-- the nodes above, when a part is put in place of another -/
theorem bu_ab_swap {a15 : Nat → Int32} {b15 : Nat → Int32} (c : List (Nat × Bool × bu_T)) : ∀ X B, bu_al (bu_ab a15) (bu_pg c X) → a15 (bu_rt (bu_pg c X)) = 0 → 0 < bu_sz X → 0 < bu_sz B → (∀ u, u ∈ bu_ca c → b15 u = a15 u) →
    bu_al (bu_ab b15) B → b15 (bu_rt B) = nI (bu_pk c) → bu_al (bu_ab b15) (bu_pg c B) ∧ b15 (bu_rt (bu_pg c B)) = 0 := by
  induction c with
  | nil => intro X B _ _ _ _ _ h1 h2; exact ⟨h1, h2⟩
  | cons e c ih =>
    intro X B hX h0 sX sB he hB hp
    have hX' : bu_al (bu_ab a15) (bu_pg c (bu_f1 e X)) := hX
    have h0' : a15 (bu_rt (bu_pg c (bu_f1 e X))) = 0 := h0
    have up := bu_pg_up hX' h0' (bu_f1_sz e X)
    have h1 := (bu_pg_al c _ hX').1
    obtain ⟨h2, h3⟩ := bu_f1_al h1
    have hs : bu_al (bu_ab b15) e.2.2 := bu_ab_eq h3 (fun x hx => he x (by simp [bu_ca, hx]))
    refine ih (bu_f1 e X) (bu_f1 e B) hX' h0' (bu_f1_sz e X) (bu_f1_sz e B) (fun u hu => he u (by simp [bu_ca, hu])) ?_ ?_
    · obtain ⟨k, b, s⟩ := e
      have hsr : 0 < bu_sz s → b15 (bu_rt s) = a15 (bu_rt s) := fun g => he _ (by simp [bu_ca, bu_rt_mem g])
      cases b
      · exact ⟨⟨fun g => by rw [hsr g]; exact h1.1.1 g, fun _ => hp⟩, hs, hB⟩
      · exact ⟨⟨fun _ => hp, fun g => by rw [hsr g]; exact h1.1.2 g⟩, hB, hs⟩
    · rw [bu_f1_rt, he e.1 (by simp [bu_ca])]
      rw [bu_f1_rt] at up; exact up
theorem bu_nd_frame {a12 a13 a14 : Nat → Int32} {b13 b14 : Nat → Int32} {B : bu_T} (h : bu_al (bu_nd a12 a13 a14) B) (he : ∀ x, x ∈ bu_ad B → b13 x = a13 x ∧ b14 x = a14 x) : bu_al (bu_nd a12 b13 b14) B := by
  refine bu_al_mono h (fun k l r hk _ _ z => ?_)
  obtain ⟨⟨k0, k1, k13, k14⟩, hs⟩ := z
  exact ⟨⟨k0, k1, by rw [(he k hk).1]; exact k13, by rw [(he k hk).2]; exact k14⟩, hs⟩
theorem bu_nd_swap {a12 a13 a14 : Nat → Int32} {b13 b14 : Nat → Int32} (c : List (Nat × Bool × bu_T)) : ∀ t t', bu_al (bu_nd a12 a13 a14) (bu_pg c t) → bu_al (bu_nd a12 b13 b14) t' → bu_rt t = bu_rt t' → bu_b t = bu_b t' → (∀ u, u ∈ bu_ca c → b13 u = a13 u ∧ b14 u = a14 u) → bu_al (bu_nd a12 b13 b14) (bu_pg c t') := by
  induction c with
  | nil => intro t t' _ h _ _ _; exact h
  | cons e c ih =>
    intro t t' h h' hr hb he
    have h1 := (bu_pg_al c _ (show bu_al (bu_nd a12 a13 a14) (bu_pg c (bu_f1 e t)) from h)).1
    obtain ⟨_, h3⟩ := bu_f1_al h1
    have hs : bu_al (bu_nd a12 b13 b14) e.2.2 := bu_nd_frame h3 (fun x hx => he x (by simp [bu_ca, hx]))
    have hk := he e.1 (by simp [bu_ca])
    refine ih (bu_f1 e t) (bu_f1 e t') h ?_ (by rw [bu_f1_rt, bu_f1_rt]) (by rw [bu_f1_b, bu_f1_b]) (fun u hu => he u (by simp [bu_ca, hu]))
    obtain ⟨k, b, s⟩ := e
    cases b
    · obtain ⟨⟨⟨k0, k1, k13, k14⟩, q, q6, q12, qa, qb⟩, _⟩ := h1
      exact ⟨⟨⟨k0, k1, by rw [hk.1]; exact k13, by rw [hk.2, ← hr]; exact k14⟩, q, q6, q12, by rw [← hb]; exact qa, by rw [← hb]; exact qb⟩, hs, h'⟩
    · obtain ⟨⟨⟨k0, k1, k13, k14⟩, q, q6, q12, qa, qb⟩, _⟩ := h1
      exact ⟨⟨⟨k0, k1, by rw [hk.1, ← hr]; exact k13, by rw [hk.2]; exact k14⟩, q, q6, q12, by rw [← hb]; exact qa, by rw [← hb]; exact qb⟩, h', hs⟩
end
section
/-! workOut at a node over worked-out children; replace -/
theorem bu_wnode {P k : Nat} {a7 a8 a9 a12 a13 a14 a16 : Nat → Int32} {a17 : Nat → Int64} {l r : bu_T} (hP1 : 1 ≤ P) (hP : P ≤ 48) (hn : bu_nd a12 a13 a14 k l r) (hl : bu_al (bu_ok P a7 a8 a9 a12 a13 a14 a16 a17) l) (hr : bu_al (bu_ok P a7 a8 a9 a12 a13 a14 a16 a17) r) (kl : k ∉ bu_ad l) (kr : k ∉ bu_ad r) (h16 : a16 0 = 0) :
    ∃ (b16 : Nat → Int32) (b17 : Nat → Int64), bu_al (bu_ok P a7 a8 a9 a12 a13 a14 b16 b17) (.branch k l r) ∧ (∀ u, u ≠ k → b16 u = a16 u ∧ b17 u = a17 u) ∧
      ∀ {w h ru ro li : Int32} {a1 a2 a3 a4 a5 a6 a10 a11 a15 a18 a19 a20 a21 : Nat → Int32} (post : St1 → Prop), post (w, h, ru, (nI P), ro, li, a1, a2, a3, a4, a5, a6, a7, a8, a9, a10, a11, a12, a13, a14, a15, b16, b17, a18, a19, a20, a21) → wpX_workOut post (w, h, ru, (nI P), ro, li, a1, a2, a3, a4, a5, a6, a7, a8, a9, a10, a11, a12, a13, a14, a15, a16, a17, a18, a19, a20, a21) (nI k) := by
  have shl := bu_nd_sh (bu_ok_nd hl)
  have shr := bu_nd_sh (bu_ok_nd hr)
  have rl := bu_sh_rt shl
  have rr := bu_sh_rt shr
  obtain ⟨⟨k0, k1, k13, k14⟩, s, s6, k12, has⟩ := hn
  obtain ⟨v, hv, hw⟩ := bu_work (P := P) (x := k) (a7 := a7) (a8 := a8) (a9 := a9) (a12 := a12) (a13 := a13) (a14 := a14) (a16 := a16) (a17 := a17) hP1 hP k1 (by rw [k13]; exact pk_in _ 64 rl) (by rw [k14]; exact pk_in _ 64 rr)
  have cl : (a13 k).toNatClampNeg = bu_rt l := by rw [k13]; exact nI_clamp (by omega)
  have cr : (a14 k).toNatClampNeg = bu_rt r := by rw [k14]; exact nI_clamp (by omega)
  rw [cl, cr] at hw
  have nl : k ≠ bu_rt l := by
    rcases bu_rt_or l with e | e
    · omega
    · exact fun z => kl (z ▸ e)
  have nr : k ≠ bu_rt r := by
    rcases bu_rt_or r with e | e
    · omega
    · exact fun z => kr (z ▸ e)
  have frame : ∀ {C : bu_T}, bu_al (bu_ok P a7 a8 a9 a12 a13 a14 a16 a17) C → k ∉ bu_ad C → bu_al (bu_ok P a7 a8 a9 a12 a13 a14 (upd a16 k ((1 + a16 (bu_rt l)) + a16 (bu_rt r))) (vp_updL a17 k v)) C := by
    intro C hC hn
    refine bu_ok_frame hC (fun u hu => ?_)
    have g : u ≠ k := fun z => hn (z ▸ hu)
    exact ⟨rfl, rfl, rfl, pk_un g, pk_uLn g⟩
  refine ⟨_, _, ⟨⟨⟨⟨k0, k1, k13, k14⟩, s, s6, k12, has⟩, ?_, ?_⟩, frame hl kl, frame hr kr⟩, fun u hu => ⟨pk_un hu, pk_uLn hu⟩, hw⟩
  · rw [pk_us, bu_ok_size hl h16, bu_ok_size hr h16]
    show nI 1 + _ + _ = _
    rw [nI_add, nI_add]
  · intro q q1 q2 hq
    rw [pk_uLs] at hq
    obtain ⟨f0, f1, f2, f3⟩ := hv q q1 q2 hq
    refine ⟨f0, f1, fun z => ?_, fun z => ?_⟩
    · have t := f2 z
      rw [cl] at t ⊢
      rw [pk_uLn nl.symm]; exact t
    · have t := f3 z
      rw [cr] at t ⊢
      rw [pk_uLn nr.symm]; exact t

/-- the way up -/
theorem bu_rloop {P : Nat} {a7 a8 a9 a12 a13 a14 a15 : Nat → Int32} (hP1 : 1 ≤ P) (hP : P ≤ 48) (c : List (Nat × Bool × bu_T)) : ∀ (t : bu_T) (i : Nat) (a16 : Nat → Int32) (a17 : Nat → Int64), i + c.length ≤ 31 →
    bu_al (bu_nd a12 a13 a14) (bu_pg c t) → bu_al (bu_ok P a7 a8 a9 a12 a13 a14 a16 a17) t → (∀ e, e ∈ c → bu_al (bu_ok P a7 a8 a9 a12 a13 a14 a16 a17) e.2.2) → bu_al (bu_ab a15) (bu_pg c t) → a15 (bu_rt (bu_pg c t)) = 0 → (bu_ad (bu_pg c t)).Nodup → a16 0 = 0 →
    ∃ (b16 : Nat → Int32) (b17 : Nat → Int64), bu_al (bu_ok P a7 a8 a9 a12 a13 a14 b16 b17) (bu_pg c t) ∧ b16 0 = 0 ∧
      ∀ {w h ru ro li : Int32} {a1 a2 a3 a4 a5 a6 a10 a11 a18 a19 a20 a21 : Nat → Int32} (post : St1 → Prop), post (w, h, ru, (nI P), ro, li, a1, a2, a3, a4, a5, a6, a7, a8, a9, a10, a11, a12, a13, a14, a15, b16, b17, a18, a19, a20, a21) → wX_replace_56 post (c.length + 1) (nI (bu_pk c)) (nI i) w h ru (nI P) ro li a1 a2 a3 a4 a5 a6 a7 a8 a9 a10 a11 a12 a13 a14 a15 a16 a17 a18 a19 a20 a21 := by
  induction c with
  | nil =>
    intro t i a16 a17 hi _ hok _ _ _ _ h16
    refine ⟨a16, a17, hok, h16, ?_⟩
    intros; rename_i post hp
    have hi' : i ≤ 31 := by simpa using hi
    exact pk_le 31 i (fun _ => hp) (fun _ => br_t rfl hp)
  | cons e c ih =>
    intro t i a16 a17 hi hnd hok hsib hab h0 hnod h16
    simp only [List.length_cons] at hi
    have hnd' : bu_al (bu_nd a12 a13 a14) (bu_pg c (bu_f1 e t)) := hnd
    have hab' : bu_al (bu_ab a15) (bu_pg c (bu_f1 e t)) := hab
    have h0' : a15 (bu_rt (bu_pg c (bu_f1 e t))) = 0 := h0
    have hnod' : (bu_ad (bu_pg c (bu_f1 e t))).Nodup := hnod
    have up := bu_pg_up hab' h0' (bu_f1_sz e t)
    rw [bu_f1_rt] at up
    have n1 := (bu_pg_perm c (bu_f1 e t)).nodup hnod'
    rw [List.nodup_append] at n1
    have n2 := (bu_f1_perm e t).nodup n1.1
    rw [List.nodup_append, List.nodup_cons] at n2
    have nd1 := (bu_pg_al c _ hnd').1
    have hs := hsib e (by simp)
    have kt : e.1 ∉ bu_ad t := fun z => n2.2.2 e.1 z e.1 (by simp) rfl
    have ks : e.1 ∉ bu_ad e.2.2 := n2.2.1.1
    have step : ∃ (b16 : Nat → Int32) (b17 : Nat → Int64), bu_al (bu_ok P a7 a8 a9 a12 a13 a14 b16 b17) (bu_f1 e t) ∧ (∀ u, u ≠ e.1 → b16 u = a16 u ∧ b17 u = a17 u) ∧
      ∀ {w h ru ro li : Int32} {a1 a2 a3 a4 a5 a6 a10 a11 a15 a18 a19 a20 a21 : Nat → Int32} (post : St1 → Prop), post (w, h, ru, (nI P), ro, li, a1, a2, a3, a4, a5, a6, a7, a8, a9, a10, a11, a12, a13, a14, a15, b16, b17, a18, a19, a20, a21) → wpX_workOut post (w, h, ru, (nI P), ro, li, a1, a2, a3, a4, a5, a6, a7, a8, a9, a10, a11, a12, a13, a14, a15, a16, a17, a18, a19, a20, a21) (nI e.1) := by
      obtain ⟨k, b, s⟩ := e
      cases b
      · exact bu_wnode hP1 hP nd1.1 hs hok ks kt h16
      · exact bu_wnode hP1 hP nd1.1 hok hs kt ks h16
    obtain ⟨b16, b17, g1, g2, g3⟩ := step
    have hk : 0 < e.1 ∧ e.1 < 64 := bu_sh_ad (bu_nd_sh nd1) ((bu_f1_perm e t).mem_iff.mpr (by simp))
    obtain ⟨d16, d17, j1, j2, j3⟩ := ih (bu_f1 e t) (i + 1) b16 b17 (by omega) hnd' g1 (fun e' he' => bu_ok_frame (hsib e' (by simp [he'])) (fun u hu => by
        have : u ≠ e.1 := fun z => n1.2.2 e.1 ((bu_f1_perm e t).mem_iff.mpr (by simp)) u ((bu_ca_mem he').2 u hu) z.symm
        exact ⟨rfl, rfl, rfl, (g2 u this).1, (g2 u this).2⟩)) hab' h0' hnod' (by rw [(g2 0 (by omega)).1]; exact h16)
    refine ⟨d16, d17, j1, j2, ?_⟩
    intro w h ru ro li a1 a2 a3 a4 a5 a6 a10 a11 a18 a19 a20 a21 post hp
    refine pk_le 31 i (fun z => absurd z (by omega)) (fun _ => pk_eq e.1 0 (fun z => absurd z (by omega)) (fun _ => g3 _ ?_))
    dsimp only
    refine ⟨pk_in e.1 64 hk.2, nm_r (e' := nI (bu_pk c)) ?_ (nm_r (nI_1 i) (j3 post hp))⟩
    show a15 (nI e.1).toNatClampNeg = _
    rw [nI_clamp (show e.1 < 2 ^ 31 by omega)]; exact up
end
section
/-! replace, release -/
theorem bu_repl {P : Nat} {a7 a8 a9 a12 a13 a14 a15 a16 : Nat → Int32} {a17 : Nat → Int64} {c : List (Nat × Bool × bu_T)} {X B : bu_T} (hP1 : 1 ≤ P) (hP : P ≤ 48)
    (hA : bu_al (bu_ok P a7 a8 a9 a12 a13 a14 a16 a17) (bu_pg c X)) (hab : bu_al (bu_ab a15) (bu_pg c X)) (h0 : a15 (bu_rt (bu_pg c X)) = 0) (hn : (bu_ad (bu_pg c X)).Nodup) (sX : 0 < bu_sz X) (hc : c.length ≤ 31)
    (hB : bu_al (bu_ok P a7 a8 a9 a12 a13 a14 a16 a17) B) (hBab : bu_al (bu_ab a15) B) (sB : 0 < bu_sz B) (nB : (bu_ad B).Nodup) (hd : ∀ u, u ∈ bu_ad B → u ∉ bu_ad (bu_pg c X)) (h16 : a16 0 = 0) :
    ∃ (b13 b14 b15 b16 : Nat → Int32) (b17 : Nat → Int64), bu_al (bu_ok P a7 a8 a9 a12 b13 b14 b16 b17) (bu_pg c B) ∧ bu_al (bu_ab b15) (bu_pg c B) ∧ b15 (bu_rt (bu_pg c B)) = 0 ∧ (bu_ad (bu_pg c B)).Nodup ∧ bu_al (bu_sh b13 b14) X ∧ b16 0 = 0 ∧
      ∀ {w h ru li : Int32} {a1 a2 a3 a4 a5 a6 a10 a11 a18 a19 a20 a21 : Nat → Int32} (post : St1 → Prop), post (w, h, ru, (nI P), (nI (bu_rt (bu_pg c B))), li, a1, a2, a3, a4, a5, a6, a7, a8, a9, a10, a11, a12, b13, b14, b15, b16, b17, a18, a19, a20, a21) → wpX_replace post (w, h, ru, (nI P), (nI (bu_rt (bu_pg c X))), li, a1, a2, a3, a4, a5, a6, a7, a8, a9, a10, a11, a12, a13, a14, a15, a16, a17, a18, a19, a20, a21) (nI (bu_rt X)) (nI (bu_rt B)) := by
  have up := bu_pg_up hab h0 sX
  have pX := bu_pg_perm c X
  have pB := bu_pg_perm c B
  have nX := pX.nodup hn
  rw [List.nodup_append] at nX
  have nB' : (bu_ad (bu_pg c B)).Nodup := by
    refine pB.symm.nodup ?_
    rw [List.nodup_append]
    refine ⟨nB, nX.2.1, fun u hu v hv e => hd u hu (pX.mem_iff.mpr ?_)⟩
    rw [e]; simp [hv]
  have okX := (bu_pg_al c X hA).1
  have shX := bu_nd_sh (bu_ok_nd okX)
  have shB := bu_nd_sh (bu_ok_nd hB)
  have rX := bu_sh_ad shX (bu_rt_mem sX)
  have rB := bu_sh_ad shB (bu_rt_mem sB)
  have cX : (nI (bu_rt X)).toNatClampNeg = bu_rt X := nI_clamp (by omega)
  have cB : (nI (bu_rt B)).toNatClampNeg = bu_rt B := nI_clamp (by omega)
  have nca : ∀ u, u ∈ bu_ad B → u ∉ bu_ca c := fun u hu z => hd u hu (pX.mem_iff.mpr (by simp [z]))
  have hBab' : bu_al (bu_ab (upd a15 (bu_rt B) (nI (bu_pk c)))) B := bu_ab_frame hBab (fun x _ hne => pk_un hne) nB
  obtain ⟨sw1, sw2⟩ := bu_ab_swap (b15 := upd a15 (bu_rt B) (nI (bu_pk c))) c X B hab h0 sX sB (fun u hu => pk_un (fun z => nca (bu_rt B) (bu_rt_mem sB) (z ▸ hu))) hBab' pk_us
  cases c with
  | nil =>
    refine ⟨a13, a14, upd a15 (bu_rt B) (nI 0), a16, a17, hB, sw1, sw2, nB', shX, h16, ?_⟩
    intro w h ru li a1 a2 a3 a4 a5 a6 a10 a11 a18 a19 a20 a21 post hp
    refine ⟨pk_in _ 64 rX.2, nm_r (e' := nI 0) (by rw [cX]; exact up) ⟨pk_in _ 64 rB.2, nm_r (e' := upd a15 (bu_rt B) (nI 0)) (by rw [cB]) (br_t rfl ⟨1, ?_⟩)⟩⟩
    exact pk_le 31 0 (fun z => absurd z (by omega)) (fun _ => br_t rfl hp)
  | cons e c =>
    have hA1 := (bu_pg_al c (bu_f1 e X) hA).1
    have hsib := (bu_pg_al (e :: c) X hA).2
    have ndA : bu_al (bu_nd a12 a13 a14) (bu_pg c (bu_f1 e X)) := bu_ok_nd hA
    have hkA : e.1 ∈ bu_ad (bu_pg (e :: c) X) := pX.mem_iff.mpr (by simp [bu_ca])
    have hk : 0 < e.1 ∧ e.1 < 64 := bu_sh_ad (bu_nd_sh (bu_ok_nd hA)) hkA
    have hkX : e.1 ∉ bu_ad X := fun z => nX.2.2 e.1 z e.1 (by simp [bu_ca]) rfl
    have hkB : e.1 ∉ bu_ad B := fun z => hd e.1 z hkA
    have n2 := nX.2.1
    simp only [bu_ca] at n2
    rw [List.nodup_append, List.nodup_cons] at n2
    have hks : e.1 ∉ bu_ad e.2.2 := n2.1.1
    have hkc : e.1 ∉ bu_ca c := fun z => n2.2.2 e.1 (by simp) e.1 z rfl
    have ck : (nI e.1).toNatClampNeg = e.1 := nI_clamp (by omega)
    have hsx : bu_rt e.2.2 ≠ bu_rt X := by
      rcases bu_rt_or e.2.2 with z | z
      · omega
      · exact fun y => nX.2.2 (bu_rt X) (bu_rt_mem sX) (bu_rt e.2.2) (by simp [bu_ca, z]) y.symm
    have root : bu_rt (bu_pg (e :: c) B) = bu_rt (bu_pg (e :: c) X) := bu_pg_rt c _ _ (by rw [bu_f1_rt, bu_f1_rt])
    have bX := bu_sz_b.mp sX
    have bB := bu_sz_b.mp sB
    have main : ∀ b13 b14 : Nat → Int32, (∀ u, u ≠ e.1 → b13 u = a13 u ∧ b14 u = a14 u) → bu_nd a12 b13 b14 e.1 (if e.2.1 then B else e.2.2) (if e.2.1 then e.2.2 else B) →
        ∃ (b16 : Nat → Int32) (b17 : Nat → Int64), bu_al (bu_ok P a7 a8 a9 a12 b13 b14 b16 b17) (bu_pg (e :: c) B) ∧ bu_al (bu_sh b13 b14) X ∧ b16 0 = 0 ∧
          ∀ {w h ru ro li : Int32} {a1 a2 a3 a4 a5 a6 a10 a11 a18 a19 a20 a21 : Nat → Int32} (post : St1 → Prop), post (w, h, ru, (nI P), ro, li, a1, a2, a3, a4, a5, a6, a7, a8, a9, a10, a11, a12, b13, b14, (upd a15 (bu_rt B) (nI e.1)), b16, b17, a18, a19, a20, a21) → wX_replace_56 post ((e :: c).length + 1) (nI e.1) (nI 0) w h ru (nI P) ro li a1 a2 a3 a4 a5 a6 a7 a8 a9 a10 a11 a12 b13 b14 (upd a15 (bu_rt B) (nI e.1)) a16 a17 a18 a19 a20 a21 := by
      intro b13 b14 hb hnd
      have okf : ∀ {C : bu_T}, bu_al (bu_ok P a7 a8 a9 a12 a13 a14 a16 a17) C → e.1 ∉ bu_ad C → bu_al (bu_ok P a7 a8 a9 a12 b13 b14 a16 a17) C := by
        intro C hC hn
        refine bu_ok_frame hC (fun u hu => ?_)
        have g : u ≠ e.1 := fun z => hn (z ▸ hu)
        exact ⟨rfl, (hb u g).1, (hb u g).2, rfl, rfl⟩
      have okB := okf hB hkB
      have oks := okf (hsib e (by simp)) hks
      have ndB : bu_al (bu_nd a12 b13 b14) (bu_f1 e B) := by
        obtain ⟨k, b, s⟩ := e
        cases b
        · exact ⟨hnd, bu_ok_nd oks, bu_ok_nd okB⟩
        · exact ⟨hnd, bu_ok_nd okB, bu_ok_nd oks⟩
      have ndP := bu_nd_swap (b13 := b13) (b14 := b14) c (bu_f1 e X) (bu_f1 e B) ndA ndB (by rw [bu_f1_rt, bu_f1_rt]) (by rw [bu_f1_b, bu_f1_b]) (fun u hu => hb u (fun z => hkc (z ▸ hu)))
      obtain ⟨b16, b17, j1, j2, j3⟩ := bu_rloop (P := P) (a7 := a7) (a8 := a8) (a9 := a9) (a12 := a12) (a13 := b13) (a14 := b14) (a15 := upd a15 (bu_rt B) (nI e.1)) hP1 hP (e :: c) B 0 a16 a17 (by omega) ndP okB (fun e' he' => by
        rcases List.mem_cons.mp he' with z | z
        · rw [z]; exact oks
        · exact okf (hsib e' he') (fun y => hkc ((bu_ca_mem z).2 _ y))) sw1 sw2 nB' h16
      exact ⟨b16, b17, j1, bu_nd_sh (bu_ok_nd (okf okX hkX)), j2, j3⟩
    obtain ⟨k, b, s⟩ := e
    cases b
    · obtain ⟨⟨⟨⟨k0, k1, k13, k14⟩, q, q6, q12, qa, qb⟩, _⟩, _⟩ := hA1
      obtain ⟨b16, b17, m1, m2, m3, m4⟩ := main a13 (upd a14 k (nI (bu_rt B))) (fun u hu => ⟨rfl, pk_un hu⟩) ⟨⟨k0, k1, k13, pk_us⟩, q, q6, q12, by show bu_ar q = bu_b s + bu_b B; omega, by show bu_b B ≤ bu_b s; omega⟩
      refine ⟨a13, upd a14 k (nI (bu_rt B)), upd a15 (bu_rt B) (nI k), b16, b17, m1, sw1, sw2, nB', m2, m3, ?_⟩
      intro w h ru li a1 a2 a3 a4 a5 a6 a10 a11 a18 a19 a20 a21 post hp
      rw [root] at hp
      refine ⟨pk_in _ 64 rX.2, nm_r (e' := nI k) (by rw [cX]; exact up) ⟨pk_in _ 64 rB.2, nm_r (e' := upd a15 (bu_rt B) (nI k)) (by rw [cB]) (pk_eq k 0 (fun z => absurd z (by omega)) (fun _ => ⟨pk_in k 64 k1, br_f ?_ ⟨pk_in k 64 k1, nm_r (e' := upd a14 k (nI (bu_rt B))) (by rw [nI_clamp (show k < 2 ^ 31 by omega)]) ⟨_, m4 post hp⟩⟩⟩))⟩⟩
      rw [nI_clamp (show k < 2 ^ 31 by omega), k13]
      intro z
      exact hsx ((nI_eq (by have : bu_rt s < 64 := bu_sh_rt (bu_nd_sh (bu_ok_nd (hsib (k, false, s) (by simp)))); show bu_rt s < _; omega) (by omega)).mp z)
    · obtain ⟨⟨⟨⟨k0, k1, k13, k14⟩, q, q6, q12, qa, qb⟩, _⟩, _⟩ := hA1
      obtain ⟨b16, b17, m1, m2, m3, m4⟩ := main (upd a13 k (nI (bu_rt B))) a14 (fun u hu => ⟨pk_un hu, rfl⟩) ⟨⟨k0, k1, pk_us, k14⟩, q, q6, q12, by show bu_ar q = bu_b B + bu_b s; omega, by show bu_b s ≤ bu_b B; omega⟩
      refine ⟨upd a13 k (nI (bu_rt B)), a14, upd a15 (bu_rt B) (nI k), b16, b17, m1, sw1, sw2, nB', m2, m3, ?_⟩
      intro w h ru li a1 a2 a3 a4 a5 a6 a10 a11 a18 a19 a20 a21 post hp
      rw [root] at hp
      refine ⟨pk_in _ 64 rX.2, nm_r (e' := nI k) (by rw [cX]; exact up) ⟨pk_in _ 64 rB.2, nm_r (e' := upd a15 (bu_rt B) (nI k)) (by rw [cB]) (pk_eq k 0 (fun z => absurd z (by omega)) (fun _ => ⟨pk_in k 64 k1, br_t ?_ ⟨pk_in k 64 k1, nm_r (e' := upd a13 k (nI (bu_rt B))) (by rw [nI_clamp (show k < 2 ^ 31 by omega)]) ⟨_, m4 post hp⟩⟩⟩))⟩⟩
      rw [nI_clamp (show k < 2 ^ 31 by omega), k13]

/-- release: the nodes of a part are free again -/
theorem bu_rl8 {a19 : Nat → Int32} (l : List Nat) : ∀ (i N : Nat) (a11 : Nat → Int32) (U V : List Nat), i + l.length = N → N ≤ 31 → bu_at a19 i l → (∀ u, u ∈ l → 0 < u ∧ u < 64) → bu_us a11 U → (∀ u, u ∈ V ↔ u ∈ U ∧ u ∉ l) →
    ∃ b11 : Nat → Int32, bu_us b11 V ∧ ∀ {w h ru pa ro li : Int32} {a1 a2 a3 a4 a5 a6 a7 a8 a9 a10 a12 a13 a14 a15 a16 a18 a20 a21 : Nat → Int32} {a17 : Nat → Int64} (post : St1 → Prop), post (w, h, ru, pa, ro, li, a1, a2, a3, a4, a5, a6, a7, a8, a9, a10, b11, a12, a13, a14, a15, a16, a17, a18, a19, a20, a21) → wX_release_8 post (nI N) w h ru pa ro li (l.length + 1) (nI i) a1 a2 a3 a4 a5 a6 a7 a8 a9 a10 a11 a12 a13 a14 a15 a16 a17 a18 a19 a20 a21 := by
  induction l with
  | nil =>
    intro i N a11 U V hi hN _ _ hU hV
    refine ⟨a11, bu_us_perm hU (fun x => by rw [hV x]; simp), ?_⟩
    intros; rename_i post hp
    simp only [List.length_nil] at hi
    exact pk_le N i (fun _ => hp) (fun z => absurd z (by omega))
  | cons s l ih =>
    intro i N a11 U V hi hN hat hl hU hV
    simp only [List.length_cons] at hi
    have hs := hl s (by simp)
    have h1 : bu_us (upd a11 s 0) (U.filter (fun x => x ≠ s)) := by
      intro j j1 j2
      by_cases e : j = s
      · subst e; rw [pk_us]; simp
      · rw [pk_un e, hU j j1 j2]; simp [e]
    obtain ⟨b11, g1, g2⟩ := ih (i + 1) N (upd a11 s 0) _ V (by omega) hN hat.2 (fun u hu => hl u (by simp [hu])) h1 (fun u => by
      rw [hV u]
      simp only [List.mem_filter, List.mem_cons, not_or, decide_eq_true_eq, and_assoc])
    refine ⟨b11, g1, ?_⟩
    intros; rename_i post hp
    refine pk_le N i (fun z => absurd z (by omega)) (fun _ => ?_)
    rw [nI_clamp (show i < 2 ^ 31 by omega), hat.1, nI_clamp (show s < 2 ^ 31 by omega)]
    exact ⟨pk_in i 32 (by omega), pk_in s 64 hs.2, nm_e (nm_r (nI_1 i) (g2 post hp))⟩
theorem bu_rel {a11 a13 a14 a19 a20 : Nat → Int32} {X : bu_T} {U V : List Nat} (hX : bu_al (bu_sh a13 a14) X) (h0 : 0 < bu_sz X) (h31 : bu_sz X ≤ 31) (hU : bu_us a11 U) (hV : ∀ u, u ∈ V ↔ u ∈ U ∧ u ∉ bu_ad X) :
    ∃ b11 b19 b20 : Nat → Int32, bu_us b11 V ∧ ∀ {w h ru pa ro li : Int32} {a1 a2 a3 a4 a5 a6 a7 a8 a9 a10 a12 a15 a16 a18 a21 : Nat → Int32} {a17 : Nat → Int64} (post : St1 → Prop), post (w, h, ru, pa, ro, li, a1, a2, a3, a4, a5, a6, a7, a8, a9, a10, b11, a12, a13, a14, a15, a16, a17, a18, b19, b20, a21) → wpX_release post (w, h, ru, pa, ro, li, a1, a2, a3, a4, a5, a6, a7, a8, a9, a10, a11, a12, a13, a14, a15, a16, a17, a18, a19, a20, a21) (nI (bu_rt X)) := by
  obtain ⟨Wo, Wp, h1, h2⟩ := bu_lp hX h0 h31
  obtain ⟨b11, g1, g2⟩ := bu_rl8 (a19 := bu_wr a19 Wo) (bu_ad X) 0 (bu_sz X) a11 U V (by rw [bu_len]; omega) h31 (h1 a19) (fun u hu => bu_sh_ad hX hu) hU hV
  refine ⟨b11, bu_wr a19 Wo, bu_wr a20 Wp, g1, ?_⟩
  intros; rename_i post hp
  exact h2 _ ⟨_, g2 post hp⟩
end
section
/-! patterns -/
def bu_tk (a q1 q2 : Nat) : List Nat := if a = 0 then [] else if a = 1 then [q1] else [q1, q2]
/-- symbols l (a symbol ahead of its parts) are what the patterns ps stand for -/
def bu_dn (P : Nat) (a7 a8 a9 : Nat → Int32) : List Nat → List Nat → Prop
  | [], ps => ps = []
  | s :: l, ps => ∃ q qs, ps = q :: qs ∧ ((7 ≤ s ∧ q = 0 ∧ bu_dn P a7 a8 a9 l qs) ∨ (s < 7 ∧ 1 ≤ q ∧ q < P ∧ a7 q = nI s ∧ ∃ q1 q2, a8 q = nI q1 ∧ a9 q = nI q2 ∧ bu_dn P a7 a8 a9 l (bu_tk (bu_ar s) q1 q2 ++ qs)))
theorem bu_dn_mono {P P' : Nat} {a7 a8 a9 : Nat → Int32} {b7 b8 b9 : Nat → Int32} (hP : P ≤ P') (he : ∀ j, j < P → b7 j = a7 j ∧ b8 j = a8 j ∧ b9 j = a9 j) (l : List Nat) : ∀ ps, bu_dn P a7 a8 a9 l ps → bu_dn P' b7 b8 b9 l ps := by
  induction l with
  | nil => intro ps h; exact h
  | cons s l ih =>
    intro ps h
    obtain ⟨q, qs, e, h⟩ := h
    refine ⟨q, qs, e, ?_⟩
    rcases h with ⟨h1, h2, h3⟩ | ⟨h1, h2, h3, h4, q1, q2, h5, h6, h7⟩
    · exact Or.inl ⟨h1, h2, ih _ h3⟩
    · obtain ⟨e1, e2, e3⟩ := he q h3
      exact Or.inr ⟨h1, h2, by omega, by rw [e1]; exact h4, q1, q2, by rw [e2]; exact h5, by rw [e3]; exact h6, ih _ h7⟩
theorem bu_pf3 {P : Nat} {x1 x2 x3 : Int32} {a7 a8 a9 : Nat → Int32} (hP : P < 48) (m : Nat) : ∀ p, p + m = P → 1 ≤ p →
    ∃ (q P' : Nat) (b7 b8 b9 : Nat → Int32), 1 ≤ q ∧ q < P' ∧ P ≤ P' ∧ P' ≤ P + 1 ∧ (∀ j, j < P → b7 j = a7 j ∧ b8 j = a8 j ∧ b9 j = a9 j) ∧ b7 q = x1 ∧ b8 q = x2 ∧ b9 q = x3 ∧
      ∀ {w h ru ro li : Int32} {a1 a2 a3 a4 a5 a6 a10 a11 a12 a13 a14 a15 a16 a18 a19 a20 a21 : Nat → Int32} {a17 : Nat → Int64} (post : Int32 → St1 → Prop), post (nI q) (w, h, ru, (nI P'), ro, li, a1, a2, a3, a4, a5, a6, b7, b8, b9, a10, a11, a12, a13, a14, a15, a16, a17, a18, a19, a20, a21) → wX_patternFor_3 post x1 x2 x3 w h ru (nI P) ro li a1 a2 a3 a4 a5 a6 a7 a8 a9 a10 a11 a12 a13 a14 a15 a16 a17 a18 a19 a20 a21 (m + 1) (nI p) := by
  induction m with
  | zero =>
    intro p hp hp1
    have cP : (nI P).toNatClampNeg = P := nI_clamp (by omega)
    refine ⟨P, P + 1, upd a7 P x1, upd a8 P x2, upd a9 P x3, by omega, by omega, by omega, by omega, fun j hj => ⟨pk_un (by omega), pk_un (by omega), pk_un (by omega)⟩, pk_us, pk_us, pk_us, ?_⟩
    intros; rename_i post hp'
    refine pk_le P p (fun _ => ?_) (fun z => absurd z (by omega))
    rw [cP]
    refine ⟨pk_in P 48 hP, nm_e ⟨pk_in P 48 hP, nm_e ⟨pk_in P 48 hP, nm_e (nm_r (e' := nI (P + 1)) (nI_1 P) ?_)⟩⟩⟩
    rw [nI_pred]; exact hp'
  | succ m ih =>
    intro p hp hp1
    have cp : (nI p).toNatClampNeg = p := nI_clamp (by omega)
    by_cases hf : a7 p = x1 ∧ a8 p = x2 ∧ a9 p = x3
    · refine ⟨p, P, a7, a8, a9, hp1, by omega, by omega, by omega, fun j _ => ⟨rfl, rfl, rfl⟩, hf.1, hf.2.1, hf.2.2, ?_⟩
      intros; rename_i post hp'
      refine pk_le P p (fun z => absurd z (by omega)) (fun _ => ?_)
      rw [cp]
      exact ⟨pk_in p 48 (by omega), br_t hf.1 ⟨pk_in p 48 (by omega), br_t hf.2.1 ⟨pk_in p 48 (by omega), br_t hf.2.2 hp'⟩⟩⟩
    · obtain ⟨q, P', b7, b8, b9, g1, g2, g3, g4, g5, g6, g7, g8, g9⟩ := ih (p + 1) (by omega) (by omega)
      refine ⟨q, P', b7, b8, b9, g1, g2, g3, g4, g5, g6, g7, g8, ?_⟩
      intros; rename_i post hp'
      refine pk_le P p (fun z => absurd z (by omega)) (fun _ => ?_)
      rw [cp]
      have t := g9 post hp'
      exact ⟨pk_in p 48 (by omega), br_c (fun e1 => ⟨pk_in p 48 (by omega), br_c (fun e2 => ⟨pk_in p 48 (by omega), br_c (fun e3 => absurd ⟨e1, e2, e3⟩ hf) (fun _ => nm_r (nI_1 p) t)⟩) (fun _ => nm_r (nI_1 p) t)⟩) (fun _ => nm_r (nI_1 p) t)⟩
theorem bu_pf {P : Nat} {x1 x2 x3 : Int32} {a7 a8 a9 : Nat → Int32} (hP1 : 1 ≤ P) (hP : P < 48) :
    ∃ (q P' : Nat) (b7 b8 b9 : Nat → Int32), 1 ≤ q ∧ q < P' ∧ P ≤ P' ∧ P' ≤ P + 1 ∧ (∀ j, j < P → b7 j = a7 j ∧ b8 j = a8 j ∧ b9 j = a9 j) ∧ b7 q = x1 ∧ b8 q = x2 ∧ b9 q = x3 ∧
      ∀ {w h ru ro li : Int32} {a1 a2 a3 a4 a5 a6 a10 a11 a12 a13 a14 a15 a16 a18 a19 a20 a21 : Nat → Int32} {a17 : Nat → Int64} (post : Int32 → St1 → Prop), post (nI q) (w, h, ru, (nI P'), ro, li, a1, a2, a3, a4, a5, a6, b7, b8, b9, a10, a11, a12, a13, a14, a15, a16, a17, a18, a19, a20, a21) → wpX_patternFor post (w, h, ru, (nI P), ro, li, a1, a2, a3, a4, a5, a6, a7, a8, a9, a10, a11, a12, a13, a14, a15, a16, a17, a18, a19, a20, a21) x1 x2 x3 := by
  obtain ⟨q, P', b7, b8, b9, g1, g2, g3, g4, g5, g6, g7, g8, g9⟩ := bu_pf3 (P := P) (x1 := x1) (x2 := x2) (x3 := x3) (a7 := a7) (a8 := a8) (a9 := a9) hP (P - 1) 1 (by omega) (by omega)
  refine ⟨q, P', b7, b8, b9, g1, g2, g3, g4, g5, g6, g7, g8, ?_⟩
  intros; rename_i post hp
  exact ⟨_, g9 post hp⟩

/-- a pile of numbers, the head on top -/
def bu_pn (p : Nat → Int32) : List Nat → Prop
  | [] => True
  | q :: qs => p qs.length = nI q ∧ bu_pn p qs
theorem bu_pn_upd {p : Nat → Int32} {x : Int32} {m : Nat} {st : List Nat} (h : bu_pn p st) (hm : st.length ≤ m) : bu_pn (upd p m x) st := by
  induction st with
  | nil => trivial
  | cons B st ih =>
    simp only [List.length_cons] at hm
    exact ⟨by rw [pk_un (by omega)]; exact h.1, ih h.2 (by omega)⟩
theorem bu_nsplit {s m : Nat} {st : List Nat} {p : Nat → Int32} (hs : st.length = m + bu_ar s) (hp : bu_pn p st) :
    ∃ l r st', st = bu_tk (bu_ar s) l r ++ st' ∧ st'.length = m ∧ bu_pn p st' ∧ ((bu_ar s = 0 ∧ l = 0) ∨ (1 ≤ bu_ar s ∧ p (m + bu_ar s - 1) = nI l)) ∧ ((bu_ar s ≤ 1 ∧ r = 0) ∨ (bu_ar s = 2 ∧ p (m + bu_ar s - 2) = nI r)) := by
  have har := bu_ar_le s
  have hc : bu_ar s = 0 ∨ bu_ar s = 1 ∨ bu_ar s = 2 := by omega
  rcases hc with e | e | e
  · exact ⟨0, 0, st, by rw [e]; rfl, by omega, hp, Or.inl ⟨e, rfl⟩, Or.inl ⟨by omega, rfl⟩⟩
  · cases st with
    | nil => simp at hs; omega
    | cons l st =>
      simp only [List.length_cons] at hs
      refine ⟨l, 0, st, by rw [e]; rfl, by omega, hp.2, Or.inr ⟨by omega, ?_⟩, Or.inl ⟨by omega, rfl⟩⟩
      rw [show m + bu_ar s - 1 = st.length by omega]; exact hp.1
  · cases st with
    | nil => simp at hs; omega
    | cons l st =>
      cases st with
      | nil => simp at hs; omega
      | cons r st =>
        simp only [List.length_cons] at hs
        refine ⟨l, r, st, by rw [e]; rfl, by omega, hp.2.2, Or.inr ⟨by omega, ?_⟩, Or.inr ⟨by omega, ?_⟩⟩
        · have := hp.1
          simp only [List.length_cons] at this
          rw [show m + bu_ar s - 1 = st.length + 1 by omega]; exact this
        · rw [show m + bu_ar s - 2 = st.length by omega]; exact hp.2.1

/-- one turn of patternOf's loop -/
theorem bu_po_step {post : Int32 → St1 → Prop} {N k s i n c q1 q2 : Nat} {w h ru pa ro li : Int32} {a1 a2 a3 a4 a5 a6 a7 a8 a9 a10 a11 a12 a13 a14 a15 a16 a18 a19 a20 a21 : Nat → Int32} {a17 : Nat → Int64} (hk : k < 6) (hi : i < 7) (h4 : a4 (k * 7 + i) = nI s) (hs : s ≤ 9) (hn : n = c + bu_ar s) (hn64 : n ≤ 64)
    (h1 : (bu_ar s = 0 ∧ q1 = 0) ∨ (1 ≤ bu_ar s ∧ a20 (n - 1) = nI q1)) (h2 : (bu_ar s ≤ 1 ∧ q2 = 0) ∨ (bu_ar s = 2 ∧ a20 (n - 2) = nI q2))
    (h73 : wX_patternOf_73 post (wX_patternOf_11 post (nI k) N) (nI k) (nI n) (nI i) (nI s) (nI (bu_ar s)) (nI q1) (nI q2) w h ru pa ro li a1 a2 a3 a4 a5 a6 a7 a8 a9 a10 a11 a12 a13 a14 a15 a16 a17 a18 a19 a20 a21) :
    wX_patternOf_11 post (nI k) (N + 1) (nI n) (nI i) w h ru pa ro li a1 a2 a3 a4 a5 a6 a7 a8 a9 a10 a11 a12 a13 a14 a15 a16 a17 a18 a19 a20 a21 := by
  have har := bu_ar_le s
  have ei : (nI k * 7) + nI i = nI (k * 7 + i) := by rw [show (7 : Int32) = nI 7 from rfl, pk_mul, nI_add]
  have h53 : wX_patternOf_53 post (wX_patternOf_11 post (nI k) N) (nI k) (nI n) (nI i) (nI s) (nI (bu_ar s)) (nI q1) w h ru pa ro li a1 a2 a3 a4 a5 a6 a7 a8 a9 a10 a11 a12 a13 a14 a15 a16 a17 a18 a19 a20 a21 := by
    rcases h2 with ⟨e, ez⟩ | ⟨e, ez⟩
    · subst ez
      exact br_t (nI_le (b := 1) e (by decide)) h73
    · refine br_f (nI_ge (a := 1) (b := bu_ar s) (by omega) (by omega)) ?_
      have e2 : nI n - 2 = nI (n - 2) := pk_sub (a := n) (b := 2) (by omega)
      rw [e2, nI_clamp (show n - 2 < 2 ^ 31 by omega), ez]
      exact ⟨pk_in (n - 2) 64 (by omega), h73⟩
  refine br_f (nI_pos (by omega)) ?_
  rw [ei, nI_clamp (show k * 7 + i < 2 ^ 31 by omega), h4]
  refine ⟨pk_in (k * 7 + i) 42 (by omega), nm_e (bu_parts hs ?_)⟩
  rcases h1 with ⟨e, ey⟩ | ⟨e, ey⟩
  · subst ey
    exact br_t (nI_le (a := bu_ar s) (b := 0) (by omega) (by decide)) h53
  · refine br_f (nI_ge (a := 0) (b := bu_ar s) (by omega) (by omega)) ?_
    have e2 : nI n - 1 = nI (n - 1) := pk_sub (a := n) (b := 1) (by omega)
    rw [e2, nI_clamp (show n - 1 < 2 ^ 31 by omega), ey]
    exact ⟨pk_in (n - 1) 64 (by omega), h53⟩
theorem bu_po_loop {k : Nat} {a4 : Nat → Int32} (hk : k < 6) (rp : List Nat) : ∀ (suf ps : List Nat) (P : Nat) (a7 a8 a9 a20 : Nat → Int32), 1 ≤ P → P + rp.length ≤ 48 →
    (∀ s, s ∈ rp → s ≤ 9) → bu_at a4 (k * 7) (rp.reverse ++ suf) → rp.length + suf.length ≤ 7 → bu_tm (rp.reverse ++ suf) 1 → bu_tm suf ps.length → ps.length ≤ suf.length → bu_pn a20 ps → bu_dn P a7 a8 a9 suf ps →
    ∃ (q P' : Nat) (b7 b8 b9 b20 : Nat → Int32), P ≤ P' ∧ P' ≤ P + rp.length ∧ (∀ j, j < P → b7 j = a7 j ∧ b8 j = a8 j ∧ b9 j = a9 j) ∧ bu_dn P' b7 b8 b9 (rp.reverse ++ suf) [q] ∧
      ∀ {w h ru ro li : Int32} {a1 a2 a3 a5 a6 a10 a11 a12 a13 a14 a15 a16 a18 a19 a21 : Nat → Int32} {a17 : Nat → Int64} (post : Int32 → St1 → Prop), post (nI q) (w, h, ru, (nI P'), ro, li, a1, a2, a3, a4, a5, a6, b7, b8, b9, a10, a11, a12, a13, a14, a15, a16, a17, a18, a19, b20, a21) → wX_patternOf_11 post (nI k) (rp.length + 1) (nI ps.length) (nI rp.length + (-1)) w h ru (nI P) ro li a1 a2 a3 a4 a5 a6 a7 a8 a9 a10 a11 a12 a13 a14 a15 a16 a17 a18 a19 a20 a21 := by
  induction rp with
  | nil =>
    intro suf ps P a7 a8 a9 a20 hP1 hP _ _ _ t1 t2 _ hpn hdn
    have e1 : ps.length = 1 := bu_tm_uni t2 t1
    obtain ⟨q, rfl⟩ : ∃ q, ps = [q] := by
      cases ps with
      | nil => simp at e1
      | cons B st => cases st with
        | nil => exact ⟨B, rfl⟩
        | cons C st => simp at e1
    refine ⟨q, P, a7, a8, a9, a20, by omega, by simp, fun j _ => ⟨rfl, rfl, rfl⟩, hdn, ?_⟩
    intros; rename_i post hp
    have e0 : a20 0 = nI q := hpn.1
    rw [← e0] at hp
    exact br_t (by decide) hp
  | cons s rp ih =>
    intro suf ps P a7 a8 a9 a20 hP1 hP hs hat hl t1 t2 hps hpn hdn
    rw [List.reverse_cons, List.append_assoc, List.singleton_append] at hat t1 ⊢
    simp only [List.length_cons] at hl hP
    have hs9 : s ≤ 9 := hs s (by simp)
    obtain ⟨d, m, _, t3⟩ := bu_tm_sfx t1
    have em : ps.length = m + bu_ar s := bu_tm_uni t2 t3
    have h4 : a4 (k * 7 + rp.length) = nI s := by
      have := (bu_at_app.mp hat).2.1
      rw [List.length_reverse] at this; exact this
    obtain ⟨q1, q2, ps', hps', hm, hpn', c1, c2⟩ := bu_nsplit em hpn
    have hmc : (nI (m + bu_ar s) - nI (bu_ar s)) = nI m := by rw [pk_sub (by omega)]; congr 1; omega
    have cm : (nI m).toNatClampNeg = m := nI_clamp (by omega)
    by_cases hv : 7 ≤ s
    · have ha := bu_ar_var hv
      have eps : ps = ps' := by rw [hps', ha]; rfl
      obtain ⟨q, P', b7, b8, b9, b20, g1, g2, g3, g4, g5⟩ := ih (s :: suf) (0 :: ps') P a7 a8 a9 (upd a20 m (nI 0)) hP1 (by omega) (fun s' h' => hs s' (by simp [h'])) hat (by simp only [List.length_cons]; omega) t1
        (by simp only [List.length_cons]; rw [hm]; exact ⟨m, rfl, t3⟩) (by simp only [List.length_cons]; omega) ⟨by rw [hm]; exact pk_us, bu_pn_upd hpn' (by omega)⟩ ⟨0, ps', rfl, Or.inl ⟨hv, rfl, eps ▸ hdn⟩⟩
      refine ⟨q, P', b7, b8, b9, b20, g1, by simp only [List.length_cons]; omega, g3, g4, ?_⟩
      intros; rename_i post hp
      have t := g5 post hp
      simp only [List.length_cons] at t ⊢
      rw [hm] at t
      rw [em, pk_m1]
      refine bu_po_step hk (by omega) h4 hs9 rfl (by omega) c1 c2 (nm_r hmc (br_f (nI_nlt (a := s) (b := 7) hv (by omega)) ⟨pk_in m 64 (by omega), nm_r (e' := upd a20 m (nI 0)) (by rw [cm]; rfl) (nm_r (nI_1 m) (nm_e t))⟩))
    · obtain ⟨q, P1, d7, d8, d9, f1, f2, f3, f4, f5, f6, f7, f8, f9⟩ := bu_pf (P := P) (x1 := nI s) (x2 := nI q1) (x3 := nI q2) (a7 := a7) (a8 := a8) (a9 := a9) hP1 (by omega)
      obtain ⟨q', P', b7, b8, b9, b20, g1, g2, g3, g4, g5⟩ := ih (s :: suf) (q :: ps') P1 d7 d8 d9 (upd a20 m (nI q)) (by omega) (by omega) (fun s' h' => hs s' (by simp [h'])) hat (by simp only [List.length_cons]; omega) t1
        (by simp only [List.length_cons]; rw [hm]; exact ⟨m, rfl, t3⟩) (by simp only [List.length_cons]; omega) ⟨by rw [hm]; exact pk_us, bu_pn_upd hpn' (by omega)⟩ ⟨q, ps', rfl, Or.inr ⟨by omega, f1, f2, f6, q1, q2, f7, f8, bu_dn_mono f3 f5 _ _ (hps' ▸ hdn)⟩⟩
      refine ⟨q', P', b7, b8, b9, b20, by omega, by simp only [List.length_cons]; omega, fun j hj => ?_, g4, ?_⟩
      · obtain ⟨x1, x2, x3⟩ := g3 j (by omega)
        obtain ⟨y1, y2, y3⟩ := f5 j hj
        exact ⟨by rw [x1, y1], by rw [x2, y2], by rw [x3, y3]⟩
      · intros; rename_i post hp
        have t := g5 post hp
        simp only [List.length_cons] at t ⊢
        rw [hm] at t
        rw [em, pk_m1]
        refine bu_po_step hk (by omega) h4 hs9 rfl (by omega) c1 c2 (nm_r hmc (br_t (nI_lt (a := s) (b := 7) (by omega) (by decide)) (f9 _ ?_)))
        dsimp only
        exact ⟨pk_in m 64 (by omega), nm_r (e' := upd a20 m (nI q)) (by rw [cm]) (nm_r (nI_1 m) (nm_e t))⟩
theorem bu_po {k P : Nat} {L : List Nat} {a3 a4 a7 a8 a9 a20 : Nat → Int32} (hk : k < 6) (hP1 : 1 ≤ P) (hP : P + 7 ≤ 48) (h3 : a3 k = nI L.length) (hl : L.length ≤ 7) (hat : bu_at a4 (k * 7) L) (ht : bu_tm L 1) (hs : ∀ s, s ∈ L → s ≤ 9) :
    ∃ (q P' : Nat) (b7 b8 b9 b20 : Nat → Int32), P ≤ P' ∧ P' ≤ P + 7 ∧ (∀ j, j < P → b7 j = a7 j ∧ b8 j = a8 j ∧ b9 j = a9 j) ∧ bu_dn P' b7 b8 b9 L [q] ∧
      ∀ {w h ru ro li : Int32} {a1 a2 a5 a6 a10 a11 a12 a13 a14 a15 a16 a18 a19 a21 : Nat → Int32} {a17 : Nat → Int64} (post : Int32 → St1 → Prop), post (nI q) (w, h, ru, (nI P'), ro, li, a1, a2, a3, a4, a5, a6, b7, b8, b9, a10, a11, a12, a13, a14, a15, a16, a17, a18, a19, b20, a21) → wpX_patternOf post (w, h, ru, (nI P), ro, li, a1, a2, a3, a4, a5, a6, a7, a8, a9, a10, a11, a12, a13, a14, a15, a16, a17, a18, a19, a20, a21) (nI k) := by
  obtain ⟨q, P', b7, b8, b9, b20, g1, g2, g3, g4, g5⟩ := bu_po_loop (a4 := a4) hk L.reverse [] [] P a7 a8 a9 a20 hP1 (by simp; omega) (fun s h => hs s (by simpa using h)) (by simpa using hat) (by simpa using hl) (by simpa using ht) rfl (by simp) trivial rfl
  refine ⟨q, P', b7, b8, b9, b20, g1, by simp at g2; omega, g3, by simpa using g4, ?_⟩
  intros; rename_i post hp
  have t := g5 post hp
  rw [List.length_reverse] at t
  refine ⟨pk_in k 6 hk, nm_r ?_ ⟨_, t⟩⟩
  rw [nI_clamp (show k < 2 ^ 31 by omega), h3, Int32.sub_eq_add_neg]
end
section
/-! prepare -/
theorem bu_pp {P : Nat} {a7 a8 a9 a12 a13 a14 a19 : Nat → Int32} (hP1 : 1 ≤ P) (hP : P ≤ 48) (B : bu_T) : bu_al (bu_nd a12 a13 a14) B → (bu_ad B).Nodup → ∀ (i : Nat) (a16 : Nat → Int32) (a17 : Nat → Int64), a16 0 = 0 → bu_at a19 i (bu_ad B) → i + bu_sz B ≤ 31 →
    ∃ (b16 : Nat → Int32) (b17 : Nat → Int64), bu_al (bu_ok P a7 a8 a9 a12 a13 a14 b16 b17) B ∧ (∀ u, u ∉ bu_ad B → b16 u = a16 u ∧ b17 u = a17 u) ∧
      ∀ {w h ru ro li : Int32} {a1 a2 a3 a4 a5 a6 a10 a11 a15 a18 a20 a21 : Nat → Int32} (post : St1 → Prop) (n : Nat), wX_prepare_45 post n (nI i + (-1)) w h ru (nI P) ro li a1 a2 a3 a4 a5 a6 a7 a8 a9 a10 a11 a12 a13 a14 a15 b16 b17 a18 a19 a20 a21 → wX_prepare_45 post (n + bu_sz B) (nI (i + bu_sz B) + (-1)) w h ru (nI P) ro li a1 a2 a3 a4 a5 a6 a7 a8 a9 a10 a11 a12 a13 a14 a15 a16 a17 a18 a19 a20 a21 := by
  induction B with
  | leaf u =>
    intro _ _ i a16 a17 _ _ _
    refine ⟨a16, a17, trivial, fun _ _ => ⟨rfl, rfl⟩, ?_⟩
    intros; rename_i hp
    exact hp
  | branch k l r ihl ihr =>
    intro hB hn i a16 a17 h16 hat hi
    have es : bu_sz (.branch k l r) = 1 + bu_sz l + bu_sz r := rfl
    rw [es] at hi
    obtain ⟨hk, hl, hr⟩ := hB
    simp only [bu_ad, List.nodup_cons, List.nodup_append, List.mem_append, not_or] at hn
    obtain ⟨⟨kl, kr⟩, n1, n2, n3⟩ := hn
    have hat2 := bu_at_app.mp hat.2
    rw [bu_len] at hat2
    have zl : 0 ∉ bu_ad l := fun z => absurd (bu_sh_ad (bu_nd_sh hl) z).1 (by omega)
    have zr : 0 ∉ bu_ad r := fun z => absurd (bu_sh_ad (bu_nd_sh hr) z).1 (by omega)
    obtain ⟨c16, c17, f1, f2, f3⟩ := ihr hr n2 (i + 1 + bu_sz l) a16 a17 h16 hat2.2 (by omega)
    obtain ⟨d16, d17, g1, g2, g3⟩ := ihl hl n1 (i + 1) c16 c17 (by rw [(f2 0 zr).1]; exact h16) hat2.1 (by omega)
    have f1' : bu_al (bu_ok P a7 a8 a9 a12 a13 a14 d16 d17) r := bu_ok_frame f1 (fun u hu => by
      have := g2 u (fun z => n3 u z u hu rfl)
      exact ⟨rfl, rfl, rfl, this.1, this.2⟩)
    obtain ⟨b16, b17, j1, j2, j3⟩ := bu_wnode hP1 hP hk g1 f1' kl kr (by rw [(g2 0 zl).1, (f2 0 zr).1]; exact h16)
    refine ⟨b16, b17, j1, fun u hu => ?_, ?_⟩
    · simp only [bu_ad, List.mem_cons, List.mem_append, not_or] at hu
      obtain ⟨u1, u2, u3⟩ := hu
      exact ⟨by rw [(j2 u u1).1, (g2 u u2).1, (f2 u u3).1], by rw [(j2 u u1).2, (g2 u u2).2, (f2 u u3).2]⟩
    · intro w h ru ro li a1 a2 a3 a4 a5 a6 a10 a11 a15 a18 a20 a21 post n hp
      rw [es, show n + (1 + bu_sz l + bu_sz r) = n + 1 + bu_sz l + bu_sz r by omega, show i + (1 + bu_sz l + bu_sz r) = i + 1 + bu_sz l + bu_sz r by omega]
      refine f3 post (n + 1 + bu_sz l) (g3 post (n + 1) ?_)
      rw [pk_m1]
      refine br_f (nI_pos (by omega)) ⟨pk_in i 32 (by omega), ?_⟩
      rw [nI_clamp (show i < 2 ^ 31 by omega), hat.1]
      refine j3 _ ?_
      dsimp only
      exact nm_e hp

def bu_rl (a3 a4 a5 a6 : Nat → Int32) (k : Nat) (L R : List Nat) : Prop :=
  a3 k = nI L.length ∧ L.length ≤ 7 ∧ bu_at a4 (k * 7) L ∧ a5 k = nI R.length ∧ R.length ≤ 31 ∧ bu_at a6 (k * 31) R ∧ bu_tm L 1 ∧ bu_tm R 1 ∧ (∀ s, s ∈ L → s ≤ 9) ∧ (∀ s, s ∈ R → s ≤ 9 ∧ (7 ≤ s → s ∈ L))
def bu_rs (a3 a4 a5 a6 : Nat → Int32) (K : Nat) : Prop := ∀ k, k < K → ∃ L R, bu_rl a3 a4 a5 a6 k L R
def bu_tp (P : Nat) (a3 a4 a5 a6 a7 a8 a9 a10 : Nat → Int32) (K : Nat) : Prop := ∀ k, k < K → ∃ L R q, bu_rl a3 a4 a5 a6 k L R ∧ a10 k = nI q ∧ bu_dn P a7 a8 a9 L [q]
theorem bu_tp_rs {P K : Nat} {a3 a4 a5 a6 a7 a8 a9 a10 : Nat → Int32} (h : bu_tp P a3 a4 a5 a6 a7 a8 a9 a10 K) : bu_rs a3 a4 a5 a6 K := fun k hk => by
  obtain ⟨L, R, q, h1, _⟩ := h k hk
  exact ⟨L, R, h1⟩
theorem bu_pr7 {K : Nat} {a3 a4 a5 a6 a12 a13 a14 a16 a19 : Nat → Int32} {a17 : Nat → Int64} {A : bu_T} (hK : K ≤ 6) (hrs : bu_rs a3 a4 a5 a6 K) (hA : bu_al (bu_nd a12 a13 a14) A) (hn : (bu_ad A).Nodup) (h0 : 0 < bu_sz A) (h31 : bu_sz A ≤ 31) (h16 : a16 0 = 0) (m : Nat) :
    ∀ (k P : Nat) (a7 a8 a9 a10 a20 : Nat → Int32), k + m = K → 1 ≤ P → P ≤ 1 + 7 * k → bu_tp P a3 a4 a5 a6 a7 a8 a9 a10 k →
    ∃ (P' : Nat) (b7 b8 b9 b10 b16 b19 b20 : Nat → Int32) (b17 : Nat → Int64), 1 ≤ P' ∧ P' ≤ 48 ∧ bu_tp P' a3 a4 a5 a6 b7 b8 b9 b10 K ∧ bu_al (bu_ok P' b7 b8 b9 a12 a13 a14 b16 b17) A ∧ b16 0 = 0 ∧
      ∀ {w h li : Int32} {a1 a2 a11 a15 a18 a21 : Nat → Int32} (post : St1 → Prop), post (w, h, (nI K), (nI P'), (nI (bu_rt A)), li, a1, a2, a3, a4, a5, a6, b7, b8, b9, b10, a11, a12, a13, a14, a15, b16, b17, a18, b19, b20, a21) →
        wX_prepare_7 post (m + 1) (nI k) w h (nI K) (nI P) (nI (bu_rt A)) li a1 a2 a3 a4 a5 a6 a7 a8 a9 a10 a11 a12 a13 a14 a15 a16 a17 a18 a19 a20 a21 := by
  induction m with
  | zero =>
    intro k P a7 a8 a9 a10 a20 hk hP1 hP htp
    have ek : k = K := by omega
    subst ek
    obtain ⟨Wo, Wp, w1, w2⟩ := bu_lp (bu_nd_sh hA) h0 h31
    obtain ⟨b16, b17, g1, g2, g3⟩ := bu_pp (P := P) (a7 := a7) (a8 := a8) (a9 := a9) (a19 := bu_wr a19 Wo) hP1 (by omega) A hA hn 0 a16 a17 h16 (w1 a19) (by omega)
    refine ⟨P, a7, a8, a9, a10, b16, bu_wr a19 Wo, bu_wr a20 Wp, b17, hP1, by omega, htp, g1, ?_, ?_⟩
    · rw [(g2 0 (fun z => absurd (bu_sh_ad (bu_nd_sh hA) z).1 (by omega))).1]; exact h16
    · intros; rename_i post hp
      refine pk_le k k (fun _ => w2 _ ?_) (fun z => absurd z (by omega))
      dsimp only
      have t := g3 post 1 (br_t (by decide) hp)
      rw [Nat.zero_add] at t
      exact nm_r (by rw [Int32.sub_eq_add_neg]) ⟨_, t⟩
  | succ m ih =>
    intro k P a7 a8 a9 a10 a20 hk hP1 hP htp
    obtain ⟨L, R, hrl⟩ := hrs k (by omega)
    obtain ⟨r1, r2, r3, r4, r5, r6, r7, r8, r9, r10⟩ := hrl
    obtain ⟨q, P1, d7, d8, d9, d20, f1, f2, f3, f4, f5⟩ := bu_po (k := k) (P := P) (L := L) (a3 := a3) (a4 := a4) (a7 := a7) (a8 := a8) (a9 := a9) (a20 := a20) (by omega) hP1 (by omega) r1 r2 r3 r7 r9
    obtain ⟨P', b7, b8, b9, b10, b16, b19, b20, b17, g1, g2, g3, g4, g5, g6⟩ := ih (k + 1) P1 d7 d8 d9 (upd a10 k (nI q)) d20 (by omega) (by omega) (by omega) (fun j hj => by
      by_cases e : j = k
      · subst e
        exact ⟨L, R, q, ⟨r1, r2, r3, r4, r5, r6, r7, r8, r9, r10⟩, pk_us, f4⟩
      · obtain ⟨L', R', q', z1, z2, z3⟩ := htp j (by omega)
        exact ⟨L', R', q', z1, by rw [pk_un e]; exact z2, bu_dn_mono f1 f3 _ _ z3⟩)
    refine ⟨P', b7, b8, b9, b10, b16, b19, b20, b17, g1, g2, g3, g4, g5, ?_⟩
    intros; rename_i post hp
    refine pk_le K k (fun z => absurd z (by omega)) (fun _ => f5 _ ?_)
    dsimp only
    exact ⟨pk_in k 6 (by omega), nm_r (e' := upd a10 k (nI q)) (by rw [nI_clamp (show k < 2 ^ 31 by omega)]) (nm_r (nI_1 k) (g6 post hp))⟩
/-- prepare -/
theorem bu_prep {K : Nat} {a3 a4 a5 a6 a7 a8 a9 a10 a12 a13 a14 a16 a19 a20 : Nat → Int32} {a17 : Nat → Int64} {A : bu_T} (hK : K ≤ 6) (hrs : bu_rs a3 a4 a5 a6 K) (hA : bu_al (bu_nd a12 a13 a14) A) (hn : (bu_ad A).Nodup) (h0 : 0 < bu_sz A) (h31 : bu_sz A ≤ 31) (h16 : a16 0 = 0) :
    ∃ (P' : Nat) (b7 b8 b9 b10 b16 b19 b20 : Nat → Int32) (b17 : Nat → Int64), 1 ≤ P' ∧ P' ≤ 48 ∧ bu_tp P' a3 a4 a5 a6 b7 b8 b9 b10 K ∧ bu_al (bu_ok P' b7 b8 b9 a12 a13 a14 b16 b17) A ∧ b16 0 = 0 ∧
      ∀ {w h pa li : Int32} {a1 a2 a11 a15 a18 a21 : Nat → Int32} (post : St1 → Prop), post (w, h, (nI K), (nI P'), (nI (bu_rt A)), li, a1, a2, a3, a4, a5, a6, b7, b8, b9, b10, a11, a12, a13, a14, a15, b16, b17, a18, b19, b20, a21) →
        wpX_prepare post (w, h, (nI K), pa, (nI (bu_rt A)), li, a1, a2, a3, a4, a5, a6, a7, a8, a9, a10, a11, a12, a13, a14, a15, a16, a17, a18, a19, a20, a21) := by
  obtain ⟨P', b7, b8, b9, b10, b16, b19, b20, b17, g1, g2, g3, g4, g5, g6⟩ := bu_pr7 (a19 := a19) (a17 := a17) hK hrs hA hn h0 h31 h16 K 0 1 a7 a8 a9 a10 a20 (by omega) (by omega) (by omega) (fun k hk => absurd hk (by omega))
  refine ⟨P', b7, b8, b9, b10, b16, b19, b20, b17, g1, g2, g3, g4, g5, ?_⟩
  intros; rename_i post hp
  exact ⟨_, g6 post hp⟩
end
section
/-! variablesOf, repeated, lineUp -/
def bu_ps : List Nat → Nat → Nat → Prop
  | [], c, d => d = c
  | s :: l, c, d => bu_ar s ≤ c ∧ bu_ps l (c - bu_ar s + 1) d
theorem bu_ps_app {l m : List Nat} {c d e : Nat} (h : bu_ps l c d) (g : bu_ps m d e) : bu_ps (l ++ m) c e := by
  induction l generalizing c with
  | nil => simp only [bu_ps] at h; subst h; exact g
  | cons s l ih => exact ⟨h.1, ih h.2⟩
theorem bu_ps_up {l : List Nat} {c d : Nat} (k : Nat) (h : bu_ps l c d) : bu_ps l (c + k) (d + k) := by
  induction l generalizing c with
  | nil => simp only [bu_ps] at h ⊢; omega
  | cons s l ih =>
    have h1 := h.1
    refine ⟨by omega, ?_⟩
    have := ih h.2
    rw [show c + k - bu_ar s + 1 = c - bu_ar s + 1 + k by omega]; exact this

def bu_ma (b0 b1 b2 : Bool) : Int32 := nI ((if b0 then 1 else 0) + (if b1 then 2 else 0) + (if b2 then 4 else 0))
theorem bu_ma7 : ∀ b0 b1 b2, bu_ma b0 b1 b2 ||| ((1 : Int32) <<< ((nI 7 - 7) &&& 31)) = bu_ma true b1 b2 := by decide
theorem bu_ma8 : ∀ b0 b1 b2, bu_ma b0 b1 b2 ||| ((1 : Int32) <<< ((nI 8 - 7) &&& 31)) = bu_ma b0 true b2 := by decide
theorem bu_ma9 : ∀ b0 b1 b2, bu_ma b0 b1 b2 ||| ((1 : Int32) <<< ((nI 9 - 7) &&& 31)) = bu_ma b0 b1 true := by decide
theorem bu_ma_0 : ∀ b0 b1 b2, bu_ma b0 b1 b2 = 0 → b0 = false ∧ b1 = false ∧ b2 = false := by decide
theorem bu_ma_sub : ∀ b0 b1 b2 c0 c1 c2, (bu_ma c0 c1 c2 &&& (bu_ma b0 b1 b2 ^^^ (-1))) = 0 → (c0 = true → b0 = true) ∧ (c1 = true → b1 = true) ∧ (c2 = true → b2 = true) := by decide
theorem bu_vo5 {post : Int32 → Prop} {N : Nat} {w h ru pa ro li : Int32} {a1 a2 a3 a4 a5 a6 a7 a8 a9 a10 a11 a12 a13 a14 a15 a16 a18 a19 a20 a21 : Nat → Int32} {a17 : Nat → Int64} (hN : N ≤ 31) (l : List Nat) : ∀ (i : Nat) (b0 b1 b2 : Bool), i + l.length = N → bu_at a1 i l → (∀ s, s ∈ l → s ≤ 9) →
    post (bu_ma (b0 || decide (7 ∈ l)) (b1 || decide (8 ∈ l)) (b2 || decide (9 ∈ l))) → wX_variablesOf_5 post (nI N) w h ru pa ro li a1 a2 a3 a4 a5 a6 a7 a8 a9 a10 a11 a12 a13 a14 a15 a16 a17 a18 a19 a20 a21 (l.length + 1) (bu_ma b0 b1 b2) (nI i) := by
  induction l with
  | nil =>
    intro i b0 b1 b2 hi _ _ hp
    simp only [List.length_nil, Nat.add_zero] at hi
    refine pk_le N i (fun _ => ?_) (fun z => absurd z (by omega))
    simpa using hp
  | cons s l ih =>
    intro i b0 b1 b2 hi hat hs hp
    simp only [List.length_cons] at hi
    have s9 := hs s (by simp)
    have ih' := fun c0 c1 c2 => ih (i + 1) c0 c1 c2 (by omega) hat.2 (fun s' h' => hs s' (by simp [h']))
    refine pk_le N i (fun z => absurd z (by omega)) (fun _ => ?_)
    rw [nI_clamp (show i < 2 ^ 31 by omega), hat.1]
    refine ⟨pk_in i 31 (by omega), pk_lt s 7 (fun z => nm_r (nI_1 i) (ih' b0 b1 b2 ?_)) (fun z => ⟨pk_in i 31 (by omega), ?_⟩)⟩
    · simpa [List.mem_cons, show ¬ 7 = s by omega, show ¬ 8 = s by omega, show ¬ 9 = s by omega] using hp
    · have hc : s = 7 ∨ s = 8 ∨ s = 9 := by omega
      rcases hc with e | e | e
      · subst e
        refine nm_r (bu_ma7 b0 b1 b2) (nm_r (nI_1 i) (ih' true b1 b2 ?_))
        simpa using hp
      · subst e
        refine nm_r (bu_ma8 b0 b1 b2) (nm_r (nI_1 i) (ih' b0 true b2 ?_))
        simpa using hp
      · subst e
        refine nm_r (bu_ma9 b0 b1 b2) (nm_r (nI_1 i) (ih' b0 b1 true ?_))
        simpa using hp
theorem bu_vo {post : Int32 → Prop} {i N : Nat} {l : List Nat} {w h ru pa ro li : Int32} {a1 a2 a3 a4 a5 a6 a7 a8 a9 a10 a11 a12 a13 a14 a15 a16 a18 a19 a20 a21 : Nat → Int32} {a17 : Nat → Int64} (hN : N ≤ 31) (hi : i + l.length = N) (hat : bu_at a1 i l) (hs : ∀ s, s ∈ l → s ≤ 9)
    (hp : post (bu_ma (decide (7 ∈ l)) (decide (8 ∈ l)) (decide (9 ∈ l)))) : wpX_variablesOf post (w, h, ru, pa, ro, li, a1, a2, a3, a4, a5, a6, a7, a8, a9, a10, a11, a12, a13, a14, a15, a16, a17, a18, a19, a20, a21) (nI i) (nI N) :=
  ⟨_, bu_vo5 hN l i false false false hi hat hs (by simpa using hp)⟩
theorem bu_re5 {N : Nat} {a1 : Nat → Int32} (hN : N ≤ 31) (l : List Nat) : ∀ (i : Nat) (x : Int32), i + l.length = N →
    ∃ r : Int32, ∀ {w h ru pa ro li : Int32} {a2 a3 a4 a5 a6 a7 a8 a9 a10 a11 a12 a13 a14 a15 a16 a18 a19 a20 a21 : Nat → Int32} {a17 : Nat → Int64} (post : Int32 → Prop), post r → wX_repeated_5 post (nI N) w h ru pa ro li a1 a2 a3 a4 a5 a6 a7 a8 a9 a10 a11 a12 a13 a14 a15 a16 a17 a18 a19 a20 a21 (l.length + 1) x (nI i) := by
  induction l with
  | nil =>
    intro i x hi
    simp only [List.length_nil, Nat.add_zero] at hi
    refine ⟨0, ?_⟩
    intros; rename_i post hp
    exact pk_le N i (fun _ => hp) (fun z => absurd z (by omega))
  | cons s l ih =>
    intro i x hi
    simp only [List.length_cons] at hi
    have key : ∀ z0 : Int32, ∃ r : Int32, ∀ {w h ru pa ro li : Int32} {a2 a3 a4 a5 a6 a7 a8 a9 a10 a11 a12 a13 a14 a15 a16 a18 a19 a20 a21 : Nat → Int32} {a17 : Nat → Int64} (post : Int32 → Prop), post r → wX_repeated_39 post (wX_repeated_5 post (nI N) w h ru pa ro li a1 a2 a3 a4 a5 a6 a7 a8 a9 a10 a11 a12 a13 a14 a15 a16 a17 a18 a19 a20 a21 (l.length + 1)) (nI N) x (nI i) z0 w h ru pa ro li a1 a2 a3 a4 a5 a6 a7 a8 a9 a10 a11 a12 a13 a14 a15 a16 a17 a18 a19 a20 a21 := by
      intro z0
      by_cases h0 : (x &&& z0) = 0
      · obtain ⟨r, hr⟩ := ih (i + 1) (x ||| z0) (by omega)
        refine ⟨r, ?_⟩
        intros; rename_i post hp
        exact br_t h0 (nm_e (nm_r (nI_1 i) (hr post hp)))
      · refine ⟨1, ?_⟩
        intros; rename_i post hp
        exact br_f h0 hp
    by_cases h7 : a1 i < 7
    · obtain ⟨r, hr⟩ := key 0
      refine ⟨r, ?_⟩
      intros; rename_i post hp
      refine pk_le N i (fun z => absurd z (by omega)) (fun _ => ⟨pk_in i 31 (by omega), ?_⟩)
      rw [nI_clamp (show i < 2 ^ 31 by omega)]
      exact br_t h7 (hr post hp)
    · obtain ⟨r, hr⟩ := key ((1 : Int32) <<< (((a1 i) - 7) &&& 31))
      refine ⟨r, ?_⟩
      intros; rename_i post hp
      refine pk_le N i (fun z => absurd z (by omega)) (fun _ => ⟨pk_in i 31 (by omega), ?_⟩)
      rw [nI_clamp (show i < 2 ^ 31 by omega)]
      exact br_f h7 ⟨pk_in i 31 (by omega), hr post hp⟩
theorem bu_re {i N : Nat} {a1 : Nat → Int32} (hN : N ≤ 31) (hi : i ≤ N) : ∃ r : Int32, ∀ {w h ru pa ro li : Int32} {a2 a3 a4 a5 a6 a7 a8 a9 a10 a11 a12 a13 a14 a15 a16 a18 a19 a20 a21 : Nat → Int32} {a17 : Nat → Int64} (post : Int32 → Prop), post r → wpX_repeated post (w, h, ru, pa, ro, li, a1, a2, a3, a4, a5, a6, a7, a8, a9, a10, a11, a12, a13, a14, a15, a16, a17, a18, a19, a20, a21) (nI i) (nI N) := by
  obtain ⟨r, hr⟩ := bu_re5 (a1 := a1) hN (List.replicate (N - i) 0) i 0 (by simp; omega)
  refine ⟨r, ?_⟩
  intros; rename_i post hp
  exact ⟨_, hr post hp⟩

/-! lineUp: the shift, then the loop -/
theorem bu_lu60 {s i t N : Nat} {u : List Nat} {a1 a20 : Nat → Int32} (ha1 : a1 i = nI s) (hi : i < 31) (ht : t < 64) (rv : List Nat) : ∀ (w' : List Nat) (a18 : Nat → Int32), u.length + rv.length + w'.length < 32 → bu_at a18 0 (u ++ rv.reverse) → bu_at a18 (u.length + rv.length + 1) w' →
    ∃ b18 : Nat → Int32, bu_at b18 0 (u ++ s :: (rv.reverse ++ w')) ∧ ∀ {w h ru pa ro : Int32} {a2 a3 a4 a5 a6 a7 a8 a9 a10 a11 a12 a13 a14 a15 a16 a19 a21 : Nat → Int32} {a17 : Nat → Int64} (post : St1 → Prop) (J : Int32 → Int32 → Int32 → (Nat → Int32) → (Nat → Int32) → (Nat → Int32) → (Nat → Int32) → (Nat → Int32) → (Nat → Int32) → (Nat → Int32) → (Nat → Int32) → (Nat → Int32) → (Nat → Int32) → (Nat → Int32) → (Nat → Int32) → (Nat → Int32) → (Nat → Int32) → (Nat → Int32) → (Nat → Int32) → (Nat → Int64) → (Nat → Int32) → (Nat → Int32) → (Nat → Int32) → (Nat → Int32) → Prop) (x2 : Int32), J (nI (t + 1)) (nI (i + 1)) (nI (N + 1)) a1 a2 a3 a4 a5 a6 a7 a8 a9 a10 a11 a12 a13 a14 a15 a16 a17 b18 a19 (upd a20 t (nI u.length)) a21 →
      wX_lineUp_60 post J x2 (nI t) (nI i) (nI u.length) w h ru pa ro (nI N) (rv.length + 1) (nI (u.length + rv.length)) a1 a2 a3 a4 a5 a6 a7 a8 a9 a10 a11 a12 a13 a14 a15 a16 a17 a18 a19 a20 a21 := by
  induction rv with
  | nil =>
    intro w' a18 hl h1 h2
    simp only [List.length_nil, Nat.add_zero] at hl h2 ⊢
    simp only [List.reverse_nil, List.append_nil, List.nil_append] at h1 ⊢
    refine ⟨upd a18 u.length (nI s), ?_, ?_⟩
    · refine bu_at_app.mpr ⟨bu_at_eq h1 (fun j _ h => pk_un (by omega)), by rw [Nat.zero_add]; exact pk_us, bu_at_eq (by rw [Nat.zero_add]; exact h2) (fun j h _ => pk_un (by omega))⟩
    · intros; rename_i post J x2 hJ
      refine pk_le u.length u.length (fun _ => ?_) (fun z => absurd z (by omega))
      rw [nI_clamp (show u.length < 2 ^ 31 by omega), nI_clamp (show i < 2 ^ 31 by omega), nI_clamp (show t < 2 ^ 31 by omega), ha1]
      exact ⟨pk_in i 31 hi, pk_in u.length 32 (by omega), nm_e (nm_r (nI_1 N) ⟨pk_in t 64 ht, nm_e (nm_r (nI_1 t) (nm_r (nI_1 i) hJ))⟩)⟩
  | cons y rv ih =>
    intro w' a18 hl h1 h2
    simp only [List.length_cons] at hl h2 ⊢
    rw [List.reverse_cons, ← List.append_assoc] at h1
    have h3 := bu_at_app.mp h1
    have hy : a18 (u.length + rv.length) = nI y := by
      have := h3.2.1
      rw [Nat.zero_add, List.length_append, List.length_reverse] at this; exact this
    obtain ⟨b18, g1, g2⟩ := ih (y :: w') (upd a18 (u.length + rv.length + 1) (nI y)) (by simp only [List.length_cons]; omega) (bu_at_eq h3.1 (fun j _ h => by
        rw [List.length_append, List.length_reverse] at h
        exact pk_un (by omega))) ⟨pk_us, bu_at_eq h2 (fun j h _ => pk_un (by omega))⟩
    refine ⟨b18, by rw [List.reverse_cons, List.append_assoc]; exact g1, ?_⟩
    intros; rename_i post J x2 hJ
    have e1 : nI (u.length + (rv.length + 1)) - 1 = nI (u.length + rv.length) := nI_pred (u.length + rv.length)
    refine pk_le (u.length + (rv.length + 1)) u.length (fun z => absurd z (by omega)) (fun _ => ?_)
    rw [e1, nI_clamp (show u.length + (rv.length + 1) < 2 ^ 31 by omega), nI_clamp (show u.length + rv.length < 2 ^ 31 by omega), hy]
    exact ⟨pk_in (u.length + rv.length) 32 (by omega), pk_in (u.length + (rv.length + 1)) 32 (by omega), nm_e (nm_r (pk_m1 (u.length + rv.length)) (g2 post J x2 hJ))⟩
def bu_ct : List (List Nat) → List Nat
  | [] => []
  | g :: sg => bu_ct sg ++ g
def bu_sp (p : Nat → Int32) : List (List Nat) → Prop
  | [] => True
  | _ :: sg => p sg.length = nI (bu_ct sg).length ∧ bu_sp p sg
theorem bu_sp_upd {p : Nat → Int32} {x : Int32} {m : Nat} {st : List (List Nat)} (h : bu_sp p st) (hm : st.length ≤ m) : bu_sp (upd p m x) st := by
  induction st with
  | nil => trivial
  | cons B st ih =>
    simp only [List.length_cons] at hm
    exact ⟨by rw [pk_un (by omega)]; exact h.1, ih h.2 (by omega)⟩
theorem bu_ssplit {s m : Nat} {sg : List (List Nat)} {p : Nat → Int32} (hs : sg.length = m + bu_ar s) (hp : bu_sp p sg) (ht : ∀ g, g ∈ sg → bu_tm g 1) :
    ∃ sg' v, bu_ct sg = bu_ct sg' ++ v ∧ bu_tm v (bu_ar s) ∧ sg'.length = m ∧ bu_sp p sg' ∧ (∀ g, g ∈ sg' → bu_tm g 1) ∧ ((bu_ar s = 0 ∧ v = []) ∨ (1 ≤ bu_ar s ∧ p m = nI (bu_ct sg').length)) := by
  have har := bu_ar_le s
  have hc : bu_ar s = 0 ∨ bu_ar s = 1 ∨ bu_ar s = 2 := by omega
  rcases hc with e | e | e
  · exact ⟨sg, [], by simp, e, by omega, hp, ht, Or.inl ⟨e, rfl⟩⟩
  · cases sg with
    | nil => simp at hs; omega
    | cons g sg =>
      simp only [List.length_cons] at hs
      refine ⟨sg, g, rfl, by rw [e]; exact ht g (by simp), by omega, hp.2, fun g' h => ht g' (by simp [h]), Or.inr ⟨by omega, ?_⟩⟩
      rw [show m = sg.length by omega]; exact hp.1
  · cases sg with
    | nil => simp at hs; omega
    | cons g sg =>
      cases sg with
      | nil => simp at hs; omega
      | cons g1 sg =>
        simp only [List.length_cons] at hs
        refine ⟨sg, g1 ++ g, ?_, ?_, by omega, hp.2.2, fun g' h => ht g' (by simp [h]), Or.inr ⟨by omega, ?_⟩⟩
        · show (bu_ct sg ++ g1) ++ g = _
          rw [List.append_assoc]
        · rw [e]; exact bu_tm_app (ht g1 (by simp)) (ht g (by simp))
        · rw [show m = sg.length by omega]; exact hp.2.1
theorem bu_lu10 {N : Nat} {a1 : Nat → Int32} (hN : N ≤ 31) (l : List Nat) : ∀ (i : Nat) (sg : List (List Nat)) (a18 a20 : Nat → Int32), i + l.length = N → (bu_ct sg).length ≤ i → sg.length ≤ i → bu_at a1 i l → (∀ s, s ∈ l → s ≤ 9) → bu_ps l sg.length 1 → bu_at a18 0 (bu_ct sg) → bu_sp a20 sg → (∀ g, g ∈ sg → bu_tm g 1) →
    ∃ (b18 b20 : Nat → Int32) (ln : List Nat), bu_at b18 0 ln ∧ bu_tm ln 1 ∧ ln.length = (bu_ct sg).length + l.length ∧ (∀ s, s ∈ ln ↔ s ∈ bu_ct sg ∨ s ∈ l) ∧
      ∀ {w h ru pa ro : Int32} {a2 a3 a4 a5 a6 a7 a8 a9 a10 a11 a12 a13 a14 a15 a16 a19 a21 : Nat → Int32} {a17 : Nat → Int64} (post : St1 → Prop), post (w, h, ru, pa, ro, (nI ln.length), a1, a2, a3, a4, a5, a6, a7, a8, a9, a10, a11, a12, a13, a14, a15, a16, a17, b18, a19, b20, a21) → wX_lineUp_10 post (nI N) w h ru pa ro (l.length + 1) (nI sg.length) (nI i) (nI (bu_ct sg).length) a1 a2 a3 a4 a5 a6 a7 a8 a9 a10 a11 a12 a13 a14 a15 a16 a17 a18 a19 a20 a21 := by
  induction l with
  | nil =>
    intro i sg a18 a20 hi _ _ _ _ hps hat hsp htm
    simp only [List.length_nil, Nat.add_zero] at hi
    have e1 : sg.length = 1 := by simp only [bu_ps] at hps; omega
    obtain ⟨g, rfl⟩ : ∃ g, sg = [g] := by
      cases sg with
      | nil => simp at e1
      | cons B st => cases st with
        | nil => exact ⟨B, rfl⟩
        | cons C st => simp at e1
    refine ⟨a18, a20, bu_ct [g], hat, by simpa [bu_ct] using htm g (by simp), by simp, fun s => by simp, ?_⟩
    intros; rename_i post hp
    exact pk_le N i (fun _ => hp) (fun z => absurd z (by omega))
  | cons s l ih =>
    intro i sg a18 a20 hi hcl hsl hat1 hs hps hat hsp htm
    simp only [List.length_cons] at hi
    have s9 := hs s (by simp)
    have har := hps.1
    obtain ⟨m, hm⟩ : ∃ m, sg.length = m + bu_ar s := ⟨sg.length - bu_ar s, by omega⟩
    obtain ⟨sg', v, c1, c2, c3, c4, c5, c6⟩ := bu_ssplit hm hsp htm
    have cl : (bu_ct sg).length = (bu_ct sg').length + v.length := by rw [c1, List.length_append]
    obtain ⟨d18, g1, g2⟩ := bu_lu60 (s := s) (i := i) (t := m) (N := (bu_ct sg).length) (u := bu_ct sg') (a1 := a1) (a20 := a20) hat1.1 (by omega) (by omega) v.reverse [] a18 (by simp; omega) (by rw [List.reverse_reverse, ← c1]; exact hat) trivial
    rw [List.reverse_reverse, List.append_nil] at g1
    have ect : bu_ct ((s :: v) :: sg') = bu_ct sg' ++ s :: v := rfl
    obtain ⟨b18, b20, ln, f1, f2, f3, f4, f5⟩ := ih (i + 1) ((s :: v) :: sg') d18 (upd a20 m (nI (bu_ct sg').length)) (by omega) (by rw [ect, List.length_append, List.length_cons]; omega) (by simp only [List.length_cons]; omega) hat1.2 (fun s' h' => hs s' (by simp [h']))
      (by simp only [List.length_cons]; rw [c3, show m + 1 = sg.length - bu_ar s + 1 by omega]; exact hps.2) (by rw [ect]; exact g1) ⟨by rw [c3]; exact pk_us, bu_sp_upd c4 (by omega)⟩
      (fun g hg => by
        rcases List.mem_cons.mp hg with z | z
        · rw [z]; exact ⟨0, rfl, by rw [Nat.zero_add]; exact c2⟩
        · exact c5 g z)
    refine ⟨b18, b20, ln, f1, f2, ?_, ?_, ?_⟩
    · rw [f3, ect]; simp only [List.length_append, List.length_cons]; omega
    · intro x
      rw [f4 x, ect, c1]
      simp only [List.mem_append, List.mem_cons]
      constructor
      · rintro ((h | h | h) | h)
        · exact Or.inl (Or.inl h)
        · exact Or.inr (Or.inl h)
        · exact Or.inl (Or.inr h)
        · exact Or.inr (Or.inr h)
      · rintro ((h | h) | h | h)
        · exact Or.inl (Or.inl h)
        · exact Or.inl (Or.inr (Or.inr h))
        · exact Or.inl (Or.inr (Or.inl h))
        · exact Or.inr h
    · intro w h ru pa ro a2 a3 a4 a5 a6 a7 a8 a9 a10 a11 a12 a13 a14 a15 a16 a19 a21 a17 post hp
      have t := f5 post hp
      simp only [List.length_cons] at t
      rw [c3, ect, List.length_append, List.length_cons, show (bu_ct sg').length + (v.length + 1) = (bu_ct sg).length + 1 by omega] at t
      have t60 := g2 (w := w) (h := h) (ru := ru) (pa := pa) (ro := ro) post (wX_lineUp_10 post (nI N) w h ru pa ro (l.length + 1)) (nI N) t
      rw [List.length_reverse, ← cl] at t60
      refine pk_le N i (fun z => absurd z (by omega)) (fun _ => ?_)
      rw [nI_clamp (show i < 2 ^ 31 by omega), hat1.1]
      refine ⟨pk_in i 31 (by omega), bu_parts s9 (nm_r (e' := nI m) (by rw [hm, pk_sub (by omega)]; congr 1; omega) ?_)⟩
      rcases c6 with ⟨e, ev⟩ | ⟨e, ev⟩
      · subst ev
        simp only [List.length_nil, Nat.add_zero] at cl
        rw [← cl] at t60
        exact br_t (by rw [e]; rfl) ⟨_, t60⟩
      · refine br_f (nI_ne0 (by omega) (by omega)) ⟨pk_in m 64 (by omega), nm_r (e' := nI (bu_ct sg').length) (by rw [nI_clamp (show m < 2 ^ 31 by omega)]; exact ev) ⟨_, t60⟩⟩
/-- lineUp(i, N): a term of the stack, its symbols ahead of their parts -/
theorem bu_lu {i N : Nat} {l : List Nat} {a1 a18 a20 : Nat → Int32} (hN : N ≤ 31) (hi : i + l.length = N) (hat : bu_at a1 i l) (hs : ∀ s, s ∈ l → s ≤ 9) (hps : bu_ps l 0 1) :
    ∃ (b18 b20 : Nat → Int32) (ln : List Nat), bu_at b18 0 ln ∧ bu_tm ln 1 ∧ ln.length = l.length ∧ (∀ s, s ∈ ln ↔ s ∈ l) ∧
      ∀ {w h ru pa ro li : Int32} {a2 a3 a4 a5 a6 a7 a8 a9 a10 a11 a12 a13 a14 a15 a16 a19 a21 : Nat → Int32} {a17 : Nat → Int64} (post : St1 → Prop), post (w, h, ru, pa, ro, (nI ln.length), a1, a2, a3, a4, a5, a6, a7, a8, a9, a10, a11, a12, a13, a14, a15, a16, a17, b18, a19, b20, a21) → wpX_lineUp post (w, h, ru, pa, ro, li, a1, a2, a3, a4, a5, a6, a7, a8, a9, a10, a11, a12, a13, a14, a15, a16, a17, a18, a19, a20, a21) (nI i) (nI N) := by
  obtain ⟨b18, b20, ln, f1, f2, f3, f4, f5⟩ := bu_lu10 (a1 := a1) hN l i [] a18 a20 hi (by simp [bu_ct]) (by simp) hat hs hps trivial trivial (fun g hg => by simp at hg)
  refine ⟨b18, b20, ln, f1, f2, by simpa [bu_ct] using f3, fun s => by simpa [bu_ct] using f4 s, ?_⟩
  intros; rename_i post hp
  exact ⟨_, f5 post hp⟩
end
section
/-! the invariant; build, discard, unrule -/
def bu_stk (a1 a2 : Nat → Int32) : List (List Nat) → Nat → Prop
  | [], _ => True
  | t :: ts, e => ∃ b, a2 ts.length = nI b ∧ b + t.length = e ∧ bu_at a1 b t ∧ bu_ps t 0 1 ∧ (∀ s, s ∈ t → s ≤ 9) ∧ bu_stk a1 a2 ts b
def bu_tree (P : Nat) (a7 a8 a9 a11 a12 a13 a14 a15 a16 : Nat → Int32) (a17 : Nat → Int64) (A : bu_T) : Prop :=
  bu_al (bu_ok P a7 a8 a9 a12 a13 a14 a16 a17) A ∧ bu_al (bu_ab a15) A ∧ a15 (bu_rt A) = 0 ∧ (bu_ad A).Nodup ∧ bu_us a11 (bu_ad A) ∧ 0 < bu_sz A ∧ bu_sz A ≤ 31 ∧ a16 0 = 0
def bu_I (W K P : Nat) (ts : List (List Nat)) (A : bu_T) (a1 a2 a3 a4 a5 a6 a7 a8 a9 a10 a11 a12 a13 a14 a15 a16 : Nat → Int32) (a17 : Nat → Int64) : Prop :=
  W ≤ 31 ∧ ts.length ≤ 6 ∧ bu_stk a1 a2 ts W ∧ K ≤ 6 ∧ 1 ≤ P ∧ P ≤ 48 ∧ bu_tp P a3 a4 a5 a6 a7 a8 a9 a10 K ∧ bu_tree P a7 a8 a9 a11 a12 a13 a14 a15 a16 a17 A
def bu_inv (u : St1) : Prop := ∃ (W K P : Nat) (ts : List (List Nat)) (A : bu_T) (li : Int32) (a1 a2 a3 a4 a5 a6 a7 a8 a9 a10 a11 a12 a13 a14 a15 a16 a18 a19 a20 a21 : Nat → Int32) (a17 : Nat → Int64),
  u = ((nI W), (nI ts.length), (nI K), (nI P), (nI (bu_rt A)), li, a1, a2, a3, a4, a5, a6, a7, a8, a9, a10, a11, a12, a13, a14, a15, a16, a17, a18, a19, a20, a21) ∧ bu_I W K P ts A a1 a2 a3 a4 a5 a6 a7 a8 a9 a10 a11 a12 a13 a14 a15 a16 a17
def bu_ev (F : (Int32 → St1 → Prop) → Prop) : Prop := ∃ (r : Int32) (u' : St1), bu_inv u' ∧ ∀ post, post r u' → F post
theorem bu_mki {W K P : Nat} {ts : List (List Nat)} {A : bu_T} {li : Int32} {a1 a2 a3 a4 a5 a6 a7 a8 a9 a10 a11 a12 a13 a14 a15 a16 a18 a19 a20 a21 : Nat → Int32} {a17 : Nat → Int64} (h : bu_I W K P ts A a1 a2 a3 a4 a5 a6 a7 a8 a9 a10 a11 a12 a13 a14 a15 a16 a17) : bu_inv ((nI W), (nI ts.length), (nI K), (nI P), (nI (bu_rt A)), li, a1, a2, a3, a4, a5, a6, a7, a8, a9, a10, a11, a12, a13, a14, a15, a16, a17, a18, a19, a20, a21) :=
  ⟨W, K, P, ts, A, li, a1, a2, a3, a4, a5, a6, a7, a8, a9, a10, a11, a12, a13, a14, a15, a16, a18, a19, a20, a21, a17, rfl, h⟩
theorem bu_stk_frame {a1 a2 : Nat → Int32} {b1 b2 : Nat → Int32} (ts : List (List Nat)) : ∀ e, bu_stk a1 a2 ts e → (∀ j, j < e → b1 j = a1 j) → (∀ j, j < ts.length → b2 j = a2 j) → bu_stk b1 b2 ts e := by
  induction ts with
  | nil => intro e _ _ _; trivial
  | cons t ts ih =>
    intro e h e1 e2
    obtain ⟨b, h1, h2, h3, h4, h5, h6⟩ := h
    exact ⟨b, by rw [e2 _ (by simp)]; exact h1, h2, bu_at_eq h3 (fun j _ hj => e1 j (by omega)), h4, h5, ih b h6 (fun j hj => e1 j (by omega)) (fun j hj => e2 j (by simp; omega))⟩
theorem bu_build {u : St1} {p : Nat} (hu : bu_inv u) (hp : p ≤ 9) : bu_ev (fun post => wpX_build post u (nI p)) := by
  obtain ⟨W, K, P, ts, A, li, a1, a2, a3, a4, a5, a6, a7, a8, a9, a10, a11, a12, a13, a14, a15, a16, a18, a19, a20, a21, a17, rfl, hI⟩ := hu
  have hI' := hI
  obtain ⟨hW, hts, hstk, hrest⟩ := hI'
  have har := bu_ar_le p
  have start : ∀ post : Int32 → St1 → Prop, ((nI W = 31 → post (-2) ((nI W), (nI ts.length), (nI K), (nI P), (nI (bu_rt A)), li, a1, a2, a3, a4, a5, a6, a7, a8, a9, a10, a11, a12, a13, a14, a15, a16, a17, a18, a19, a20, a21)) ∧ (¬ nI W = 31 → ((nI (bu_ar p) = 0 → ((nI ts.length = 6 → post (-2) ((nI W), (nI ts.length), (nI K), (nI P), (nI (bu_rt A)), li, a1, a2, a3, a4, a5, a6, a7, a8, a9, a10, a11, a12, a13, a14, a15, a16, a17, a18, a19, a20, a21)) ∧ (¬ nI ts.length = 6 → wX_build_43 post (nI p) (nI (bu_ar p)) (nI W) (nI ts.length) (nI K) (nI P) (nI (bu_rt A)) li a1 a2 a3 a4 a5 a6 a7 a8 a9 a10 a11 a12 a13 a14 a15 a16 a17 a18 a19 a20 a21))) ∧ (¬ nI (bu_ar p) = 0 → wX_build_43 post (nI p) (nI (bu_ar p)) (nI W) (nI ts.length) (nI K) (nI P) (nI (bu_rt A)) li a1 a2 a3 a4 a5 a6 a7 a8 a9 a10 a11 a12 a13 a14 a15 a16 a17 a18 a19 a20 a21)))) → wpX_build post ((nI W), (nI ts.length), (nI K), (nI P), (nI (bu_rt A)), li, a1, a2, a3, a4, a5, a6, a7, a8, a9, a10, a11, a12, a13, a14, a15, a16, a17, a18, a19, a20, a21) (nI p) := by
    intro post h
    exact br_f (nI_pos (by omega)) (br_t (nI_le (b := 9) hp (by decide)) (bu_parts hp h))
  by_cases e31 : W = 31
  · refine ⟨-2, _, bu_mki hI, fun post h => start post (br_t (by rw [e31]; rfl) h)⟩
  · have n31 : ¬ nI W = 31 := fun z => e31 ((nI_eq (b := 31) (by omega) (by decide)).mp z)
    by_cases h0 : bu_ar p = 0
    · by_cases h6 : ts.length = 6
      · exact ⟨-2, _, bu_mki hI, fun post h => start post (br_f n31 (br_t (by rw [h0]; rfl) (br_t (by rw [h6]; rfl) h)))⟩
      · have n6 : ¬ nI ts.length = 6 := fun z => h6 ((nI_eq (b := 6) (by omega) (by decide)).mp z)
        refine ⟨nI ([p] :: ts).length, _, bu_mki (W := W + 1) (ts := [p] :: ts) (li := li) (a1 := upd a1 W (nI p)) (a2 := upd a2 ts.length (nI W)) (a18 := a18) (a19 := a19) (a20 := a20) (a21 := a21) ⟨by omega, by simp only [List.length_cons]; omega, ⟨W, pk_us, rfl, ⟨pk_us, trivial⟩, ⟨by omega, by simp [bu_ps, h0]⟩, fun s hs => by simp at hs; omega, bu_stk_frame ts W hstk (fun j hj => pk_un (by omega)) (fun j hj => pk_un (by omega))⟩, hrest⟩, fun post h => start post (br_f n31 (br_t (by rw [h0]; rfl) (br_f n6 (br_t (by rw [h0]; exact nI_le (by omega) (by omega)) (br_t (by rw [h0]; rfl) ⟨pk_in ts.length 6 (by omega), nm_r (e' := upd a2 ts.length (nI W)) (by rw [nI_clamp (by omega)]) ?_⟩)))))⟩
        refine nm_r (e' := nI (ts.length + 1)) ?_ ⟨pk_in W 31 (by omega), nm_r (e' := upd a1 W (nI p)) (by rw [nI_clamp (by omega)]) (nm_r (nI_1 W) h)⟩
        rw [nI_1, pk_sub (by omega), h0]; rfl
    · have n0 : ¬ nI (bu_ar p) = 0 := nI_ne0 (by omega) (by omega)
      by_cases hh : bu_ar p ≤ ts.length
      · have fin : ∀ ts' : List (List Nat), ts'.length = ts.length + 1 - bu_ar p → bu_stk (upd a1 W (nI p)) a2 ts' (W + 1) → bu_ev (fun post => wpX_build post ((nI W), (nI ts.length), (nI K), (nI P), (nI (bu_rt A)), li, a1, a2, a3, a4, a5, a6, a7, a8, a9, a10, a11, a12, a13, a14, a15, a16, a17, a18, a19, a20, a21) (nI p)) := by
          intro ts' hl' hs'
          refine ⟨nI ts'.length, _, bu_mki (W := W + 1) (ts := ts') (li := li) (a1 := upd a1 W (nI p)) (a18 := a18) (a19 := a19) (a20 := a20) (a21 := a21) ⟨by omega, by omega, hs', hrest⟩, fun post h => start post (br_f n31 (br_f n0 (br_t (nI_le hh (by omega)) (br_f n0 ?_))))⟩
          refine nm_r (e' := nI ts'.length) ?_ ⟨pk_in W 31 (by omega), nm_r (e' := upd a1 W (nI p)) (by rw [nI_clamp (by omega)]) (nm_r (nI_1 W) h)⟩
          rw [nI_1, pk_sub (by omega), hl']
        have hc : bu_ar p = 1 ∨ bu_ar p = 2 := by omega
        rcases hc with e | e
        · cases ts with
          | nil => simp at hh; omega
          | cons t ts =>
            obtain ⟨b, h1, h2, h3, h4, h5, h6⟩ := hstk
            refine fin ((t ++ [p]) :: ts) (by simp only [List.length_cons]; omega) ⟨b, h1, by simp only [List.length_append, List.length_cons, List.length_nil]; omega, by rw [← h2]; exact bu_at_snoc h3, bu_ps_app h4 ⟨by omega, by simp [bu_ps, e]⟩, ?_, bu_stk_frame ts b h6 (fun j hj => pk_un (by omega)) (fun j hj => rfl)⟩
            intro s hs
            rcases List.mem_append.mp hs with z | z
            · exact h5 s z
            · simp at z; omega
        · cases ts with
          | nil => simp at hh; omega
          | cons t ts =>
            cases ts with
            | nil => simp at hh; omega
            | cons t2 ts =>
              obtain ⟨b, h1, h2, h3, h4, h5, c, g1, g2, g3, g4, g5, g6⟩ := hstk
              refine fin (((t2 ++ t) ++ [p]) :: ts) (by simp only [List.length_cons]; omega) ⟨c, g1, by simp only [List.length_append, List.length_cons, List.length_nil]; omega, ?_, bu_ps_app (bu_ps_app g4 (bu_ps_up 1 h4)) ⟨by omega, by simp [bu_ps, e]⟩, ?_, bu_stk_frame ts c g6 (fun j hj => pk_un (by omega)) (fun j hj => rfl)⟩
              · have ha : bu_at a1 c (t2 ++ t) := bu_at_app.mpr ⟨g3, by rw [g2]; exact h3⟩
                have := bu_at_snoc (s := p) ha
                rw [List.length_append, show c + (t2.length + t.length) = W by omega] at this
                exact this
              · intro s hs
                simp only [List.mem_append, List.mem_singleton] at hs
                rcases hs with (z | z) | z
                · exact g5 s z
                · exact h5 s z
                · omega
      · exact ⟨-3, _, bu_mki hI, fun post h => start post (br_f n31 (br_f n0 (br_f (nI_ge (by omega) (by omega)) h)))⟩
theorem bu_discard {u : St1} (hu : bu_inv u) : ∃ u', bu_inv u' ∧ ∀ post : St1 → Prop, post u' → wpX_discard post u := by
  obtain ⟨W, K, P, ts, A, li, a1, a2, a3, a4, a5, a6, a7, a8, a9, a10, a11, a12, a13, a14, a15, a16, a18, a19, a20, a21, a17, rfl, hI⟩ := hu
  exact ⟨_, bu_mki (W := 0) (ts := []) (li := li) (a1 := a1) (a2 := a2) (a18 := a18) (a19 := a19) (a20 := a20) (a21 := a21) ⟨by omega, by simp, trivial, hI.2.2.2⟩, fun post h => h⟩
theorem bu_unrule {u : St1} (hu : bu_inv u) : bu_ev (fun post => wpX_unrule post u) := by
  obtain ⟨W, K, P, ts, A, li, a1, a2, a3, a4, a5, a6, a7, a8, a9, a10, a11, a12, a13, a14, a15, a16, a18, a19, a20, a21, a17, rfl, hI⟩ := hu
  obtain ⟨hW, hts, hstk, hK, hP1, hP, htp, t1, t2, t3, t4, t5, t6, t7, t8⟩ := hI
  by_cases h0 : K = 0
  · exact ⟨-4, _, bu_mki (W := W) (ts := ts) ⟨hW, hts, hstk, hK, hP1, hP, htp, t1, t2, t3, t4, t5, t6, t7, t8⟩, fun post h => br_t (by rw [h0]; rfl) h⟩
  · obtain ⟨P', b7, b8, b9, b10, b16, b19, b20, b17, g1, g2, g3, g4, g5, g6⟩ := bu_prep (K := K - 1) (A := A) (a7 := a7) (a8 := a8) (a9 := a9) (a10 := a10) (a17 := a17) (a19 := a19) (a20 := a20) (by omega) (fun k hk => bu_tp_rs htp k (by omega)) (bu_ok_nd t1) t4 t6 t7 t8
    refine ⟨nI (K - 1), _, bu_mki (W := W) (ts := ts) (K := K - 1) (P := P') (A := A) (li := li) (a18 := a18) (a19 := b19) (a20 := b20) (a21 := a21) ⟨hW, hts, hstk, by omega, g1, g2, g3, g4, t2, t3, t4, t5, t6, t7, g5⟩, fun post h => br_f (nI_ne0 (by omega) (by omega)) (nm_r (e' := nI (K - 1)) (pk_sub (a := K) (b := 1) (by omega)) (g6 _ h))⟩
end
section
/-! subject, rule -/
theorem bu_subject {u : St1} (hu : bu_inv u) : bu_ev (fun post => wpX_subject post u) := by
  obtain ⟨W, K, P, ts, A, li, a1, a2, a3, a4, a5, a6, a7, a8, a9, a10, a11, a12, a13, a14, a15, a16, a18, a19, a20, a21, a17, rfl, hI⟩ := hu
  have hI' := hI
  obtain ⟨hW, hts, hstk, hK, hP1, hP, htp, t1, t2, t3, t4, t5, t6, t7, t8⟩ := hI'
  cases ts with
  | nil => exact ⟨-3, _, bu_mki hI, fun post h => br_t rfl h⟩
  | cons t ts =>
    obtain ⟨b, h1, h2, h3, h4, h5, h6⟩ := hstk
    simp only [List.length_cons] at hts
    have e1 : nI (t :: ts).length - 1 = nI ts.length := nI_pred ts.length
    have e2 : (nI ts.length).toNatClampNeg = ts.length := nI_clamp (by omega)
    by_cases hm : bu_ma (decide (7 ∈ t)) (decide (8 ∈ t)) (decide (9 ∈ t)) = 0
    · obtain ⟨m7, m8, m9⟩ := bu_ma_0 _ _ _ hm
      simp only [decide_eq_false_iff_not] at m7 m8 m9
      have s6 : ∀ s, s ∈ t → s ≤ 6 := by
        intro s hs
        have h9 := h5 s hs
        have n7 : s ≠ 7 := fun z => m7 (z ▸ hs)
        have n8 : s ≠ 8 := fun z => m8 (z ▸ hs)
        have n9 : s ≠ 9 := fun z => m9 (z ▸ hs)
        omega
      obtain ⟨b18, b20, ln, f1, f2, f3, f4, f5⟩ := bu_lu (a18 := a18) (a20 := a20) hW h2 h3 h5 h4
      obtain ⟨c11, c19, c20, g1, g2⟩ := bu_rel (a11 := a11) (a19 := a19) (a20 := b20) (U := bu_ad A) (V := []) (bu_nd_sh (bu_ok_nd t1)) t6 t7 t5 (fun u => by simp)
      obtain ⟨B, d11, d12, d13, d14, d15, d16, d20, d17, i1, i2, i3, i4⟩ := bu_grow (P := P) (a7 := a7) (a8 := a8) (a9 := a9) (a11 := c11) (a12 := a12) (a13 := a13) (a14 := a14) (a15 := a15) (a16 := a16) (a17 := a17) (a18 := b18) (a20 := c20) (U := []) (ln := ln) hP1 hP (fun s hs => s6 s ((f4 s).mp hs)) f1 (by omega) (by simp) f2 (by simp) g1 t8 (by simp)
      obtain ⟨j1, j2, j3, j4, j5⟩ := i1
      obtain ⟨k1, k2, k3, k4⟩ := j1 B (by simp)
      have efl : bu_fl [B] ++ [] = bu_ad B := by simp [bu_fl]
      rw [efl] at j2 j3
      refine ⟨d16 (bu_rt B), _, bu_mki (W := b) (ts := ts) (K := K) (P := P) (A := B) (li := nI ln.length) (a1 := a1) (a2 := a2) (a18 := b18) (a19 := c19) (a20 := d20) (a21 := a21) ⟨by omega, by omega, h6, hK, hP1, hP, htp, k2, k3, k4, j2, j3, k1, by omega, j4⟩, fun post h => br_f (nI_ne0 (by simp) (by simp; omega)) ?_⟩
      rw [e1, e2, h1]
      refine ⟨pk_in ts.length 6 (by omega), nm_e (bu_vo hW h2 h3 h5 (br_t hm (f5 _ ?_)))⟩
      dsimp only
      refine nm_r (e' := nI ts.length) e1 (g2 _ (i4 _ ?_))
      have rB := bu_sh_rt (bu_nd_sh (bu_ok_nd k2))
      refine ⟨pk_in (bu_rt B) 64 rB, ?_⟩
      rw [nI_clamp (show bu_rt B < 2 ^ 31 by omega)]
      exact h
    · refine ⟨-3, _, bu_mki (li := li) (a18 := a18) (a19 := a19) (a20 := a20) (a21 := a21) hI, fun post h => br_f (nI_ne0 (by simp) (by simp; omega)) ?_⟩
      rw [e1, e2, h1]
      exact ⟨pk_in ts.length 6 (by omega), nm_e (bu_vo hW h2 h3 h5 (br_f hm h))⟩

/-! rule: two loops that copy the line -/
theorem bu_r158 {K N : Nat} {x1 x2 : Int32} {a18 : Nat → Int32} (hK : K < 6) (hN : N ≤ 7) (l : List Nat) : ∀ (pre : List Nat) (a4 : Nat → Int32), pre.length + l.length = N → bu_at a18 pre.length l → bu_at a4 (K * 7) pre →
    ∃ b4 : Nat → Int32, bu_at b4 (K * 7) (pre ++ l) ∧ (∀ j, j < K * 7 → b4 j = a4 j) ∧ ∀ {w h pa ro : Int32} {a1 a2 a3 a5 a6 a7 a8 a9 a10 a11 a12 a13 a14 a15 a16 a19 a20 a21 : Nat → Int32} {a17 : Nat → Int64} (post : Int32 → St1 → Prop) (n : Nat), wX_rule_158 post x1 x2 w h (nI K) pa ro (nI N) n (nI N) a1 a2 a3 b4 a5 a6 a7 a8 a9 a10 a11 a12 a13 a14 a15 a16 a17 a18 a19 a20 a21 → wX_rule_158 post x1 x2 w h (nI K) pa ro (nI N) (n + l.length) (nI pre.length) a1 a2 a3 a4 a5 a6 a7 a8 a9 a10 a11 a12 a13 a14 a15 a16 a17 a18 a19 a20 a21 := by
  induction l with
  | nil =>
    intro pre a4 hl _ h4
    refine ⟨a4, by simpa using h4, fun _ _ => rfl, ?_⟩
    intros; rename_i post n hp
    simp only [List.length_nil, Nat.add_zero] at hl ⊢
    rw [hl]; exact hp
  | cons s l ih =>
    intro pre a4 hl h18 h4
    simp only [List.length_cons] at hl
    obtain ⟨b4, g1, g2, g3⟩ := ih (pre ++ [s]) (upd a4 (K * 7 + pre.length) (nI s)) (by simp; omega) (by simpa using h18.2) (bu_at_snoc h4)
    refine ⟨b4, by simpa using g1, fun j hj => by rw [g2 j hj]; exact pk_un (by omega), ?_⟩
    intros; rename_i post n hp
    have t := g3 post n hp
    rw [List.length_append] at t
    have ei : (nI K * 7) + nI pre.length = nI (K * 7 + pre.length) := by rw [show (7 : Int32) = nI 7 from rfl, pk_mul, nI_add]
    refine pk_le N pre.length (fun z => absurd z (by omega)) (fun _ => ?_)
    rw [ei, nI_clamp (show K * 7 + pre.length < 2 ^ 31 by omega), nI_clamp (show pre.length < 2 ^ 31 by omega), h18.1]
    exact ⟨pk_in pre.length 32 (by omega), pk_in (K * 7 + pre.length) 42 (by omega), nm_e (nm_r (nI_1 pre.length) t)⟩
theorem bu_r220 {K N : Nat} {x1 : Int32} {a18 : Nat → Int32} (hK : K < 6) (hN : N ≤ 31) (l : List Nat) : ∀ (pre : List Nat) (a6 : Nat → Int32), pre.length + l.length = N → bu_at a18 pre.length l → bu_at a6 (K * 31) pre →
    ∃ b6 : Nat → Int32, bu_at b6 (K * 31) (pre ++ l) ∧ (∀ j, j < K * 31 → b6 j = a6 j) ∧ ∀ {w h pa ro : Int32} {a1 a2 a3 a4 a5 a7 a8 a9 a10 a11 a12 a13 a14 a15 a16 a19 a20 a21 : Nat → Int32} {a17 : Nat → Int64} (post : Int32 → St1 → Prop) (n : Nat), wX_rule_220 post x1 w h (nI K) pa ro (nI N) n (nI N) a1 a2 a3 a4 a5 b6 a7 a8 a9 a10 a11 a12 a13 a14 a15 a16 a17 a18 a19 a20 a21 → wX_rule_220 post x1 w h (nI K) pa ro (nI N) (n + l.length) (nI pre.length) a1 a2 a3 a4 a5 a6 a7 a8 a9 a10 a11 a12 a13 a14 a15 a16 a17 a18 a19 a20 a21 := by
  induction l with
  | nil =>
    intro pre a6 hl _ h6
    refine ⟨a6, by simpa using h6, fun _ _ => rfl, ?_⟩
    intros; rename_i post n hp
    simp only [List.length_nil, Nat.add_zero] at hl ⊢
    rw [hl]; exact hp
  | cons s l ih =>
    intro pre a6 hl h18 h6
    simp only [List.length_cons] at hl
    obtain ⟨b6, g1, g2, g3⟩ := ih (pre ++ [s]) (upd a6 (K * 31 + pre.length) (nI s)) (by simp; omega) (by simpa using h18.2) (bu_at_snoc h6)
    refine ⟨b6, by simpa using g1, fun j hj => by rw [g2 j hj]; exact pk_un (by omega), ?_⟩
    intros; rename_i post n hp
    have t := g3 post n hp
    rw [List.length_append] at t
    have ei : (nI K * 31) + nI pre.length = nI (K * 31 + pre.length) := by rw [show (31 : Int32) = nI 31 from rfl, pk_mul, nI_add]
    refine pk_le N pre.length (fun z => absurd z (by omega)) (fun _ => ?_)
    rw [ei, nI_clamp (show K * 31 + pre.length < 2 ^ 31 by omega), nI_clamp (show pre.length < 2 ^ 31 by omega), h18.1]
    exact ⟨pk_in pre.length 32 (by omega), pk_in (K * 31 + pre.length) 186 (by omega), nm_e (nm_r (nI_1 pre.length) t)⟩
theorem bu_rl_old {K k : Nat} {L R : List Nat} {a3 a4 a5 a6 : Nat → Int32} {b3 b4 b5 b6 : Nat → Int32} (h : bu_rl a3 a4 a5 a6 k L R) (hk : k < K) (e3 : ∀ j, j ≠ K → b3 j = a3 j) (e4 : ∀ j, j < K * 7 → b4 j = a4 j) (e5 : ∀ j, j ≠ K → b5 j = a5 j) (e6 : ∀ j, j < K * 31 → b6 j = a6 j) : bu_rl b3 b4 b5 b6 k L R := by
  obtain ⟨r1, r2, r3, r4, r5, r6, r⟩ := h
  exact ⟨by rw [e3 k (by omega)]; exact r1, r2, bu_at_eq r3 (fun j _ hj => e4 j (by omega)), by rw [e5 k (by omega)]; exact r4, r5, bu_at_eq r6 (fun j _ hj => e6 j (by omega)), r⟩
/-- the good way of rule -/
theorem bu_r97 {W K P bL bR : Nat} {ts : List (List Nat)} {tL tR : List Nat} {A : bu_T} {li : Int32} {a1 a2 a3 a4 a5 a6 a7 a8 a9 a10 a11 a12 a13 a14 a15 a16 a18 a19 a20 a21 : Nat → Int32} {a17 : Nat → Int64}
    (hI : bu_I W K P (tR :: tL :: ts) A a1 a2 a3 a4 a5 a6 a7 a8 a9 a10 a11 a12 a13 a14 a15 a16 a17) (h2 : bR + tR.length = W) (h3 : bu_at a1 bR tR) (h4 : bu_ps tR 0 1) (h5 : ∀ s, s ∈ tR → s ≤ 9)
    (g2 : bL + tL.length = bR) (g3 : bu_at a1 bL tL) (g4 : bu_ps tL 0 1) (g5 : ∀ s, s ∈ tL → s ≤ 9) (g6 : bu_stk a1 a2 ts bL) (hK6 : K < 6) (hlen : tL.length ≤ 7) :
    bu_ev (fun post => wX_rule_97 post (nI bL) (nI bR) 0 (nI W) (nI (tR :: tL :: ts).length) (nI K) (nI P) (nI (bu_rt A)) li a1 a2 a3 a4 a5 a6 a7 a8 a9 a10 a11 a12 a13 a14 a15 a16 a17 a18 a19 a20 a21) := by
  have hI' := hI
  obtain ⟨hW, hts, hstk, hK, hP1, hP, htp, t1, t2, t3, t4, t5, t6, t7, t8⟩ := hI'
  simp only [List.length_cons] at hts
  by_cases hm : (bu_ma (decide (7 ∈ tR)) (decide (8 ∈ tR)) (decide (9 ∈ tR)) &&& (bu_ma (decide (7 ∈ tL)) (decide (8 ∈ tL)) (decide (9 ∈ tL)) ^^^ (-1))) = 0
  · obtain ⟨m7, m8, m9⟩ := bu_ma_sub _ _ _ _ _ _ hm
    simp only [decide_eq_true_eq] at m7 m8 m9
    have sub : ∀ s, s ∈ tR → s ≤ 9 ∧ (7 ≤ s → s ∈ tL) := by
      intro s hs
      refine ⟨h5 s hs, fun h7 => ?_⟩
      have h9 := h5 s hs
      have hc : s = 7 ∨ s = 8 ∨ s = 9 := by omega
      rcases hc with e | e | e
      · subst e; exact m7 hs
      · subst e; exact m8 hs
      · subst e; exact m9 hs
    obtain ⟨b18, b20, L, f1, f2, f3, f4, f5⟩ := bu_lu (a18 := a18) (a20 := a20) (show bR ≤ 31 by omega) g2 g3 g5 g4
    obtain ⟨c18, c20, R, i1, i2, i3, i4, i5⟩ := bu_lu (a18 := b18) (a20 := b20) hW h2 h3 h5 h4
    obtain ⟨b4, p1, p2, p3⟩ := bu_r158 (K := K) (N := L.length) (x1 := nI bL) (x2 := nI bR) (a18 := b18) hK6 (by omega) L [] a4 (by simp) f1 trivial
    obtain ⟨b6, q1, q2, q3⟩ := bu_r220 (K := K) (N := R.length) (x1 := nI bL) (a18 := c18) hK6 (by omega) R [] a6 (by simp) i1 trivial
    have hrs : bu_rs (upd a3 K (nI L.length)) b4 (upd a5 K (nI R.length)) b6 (K + 1) := by
      intro k hk
      by_cases e : k = K
      · subst e
        refine ⟨L, R, pk_us, by omega, by simpa using p1, pk_us, by omega, by simpa using q1, f2, i2, fun s hs => g5 s ((f4 s).mp hs), fun s hs => ?_⟩
        obtain ⟨z1, z2⟩ := sub s ((i4 s).mp hs)
        exact ⟨z1, fun h7 => (f4 s).mpr (z2 h7)⟩
      · obtain ⟨L', R', h'⟩ := bu_tp_rs htp k (by omega)
        exact ⟨L', R', bu_rl_old h' (show k < K by omega) (fun j hj => pk_un hj) p2 (fun j hj => pk_un hj) q2⟩
    obtain ⟨P', b7, b8, b9, b10, b16, d19, d20, b17, k1, k2, k3, k4, k5, k6⟩ := bu_prep (K := K + 1) (A := A) (a7 := a7) (a8 := a8) (a9 := a9) (a10 := a10) (a17 := a17) (a19 := a19) (a20 := c20) (by omega) hrs (bu_ok_nd t1) t4 t6 t7 t8
    refine ⟨nI K, _, bu_mki (W := bL) (ts := ts) (K := K + 1) (P := P') (A := A) (li := nI R.length) (a18 := c18) (a19 := d19) (a20 := d20) (a21 := a21) ⟨by omega, by omega, g6, by omega, k1, k2, k3, k4, t2, t3, t4, t5, t6, t7, k5⟩, fun post h => ?_⟩
    refine bu_vo (show bR ≤ 31 by omega) g2 g3 g5 (bu_vo hW h2 h3 h5 (br_t rfl (br_t hm (f5 _ ?_))))
    refine ⟨pk_in K 6 hK6, nm_r (e' := upd a3 K (nI L.length)) (by rw [nI_clamp (show K < 2 ^ 31 by omega)]) ⟨_, p3 post 1 (pk_le L.length L.length (fun _ => i5 _ ?_) (fun z => absurd z (by omega)))⟩⟩
    refine ⟨pk_in K 6 hK6, nm_r (e' := upd a5 K (nI R.length)) (by rw [nI_clamp (show K < 2 ^ 31 by omega)]) ⟨_, q3 post 1 (pk_le R.length R.length (fun _ => nm_r (nI_1 K) (nm_r (e' := nI ts.length) ?_ (k6 _ ?_))) (fun z => absurd z (by omega)))⟩⟩
    · have : nI (ts.length + 2) - 2 = nI ts.length := by
        have := pk_sub (a := ts.length + 2) (b := 2) (by omega)
        exact this
      exact this
    · dsimp only
      rw [nI_pred]
      exact h
  · exact ⟨-3, _, bu_mki hI, fun post h => bu_vo (show bR ≤ 31 by omega) g2 g3 g5 (bu_vo hW h2 h3 h5 (br_t rfl (br_f hm h)))⟩
theorem bu_rule {u : St1} (hu : bu_inv u) : bu_ev (fun post => wpX_rule post u) := by
  obtain ⟨W, K, P, ts, A, li, a1, a2, a3, a4, a5, a6, a7, a8, a9, a10, a11, a12, a13, a14, a15, a16, a18, a19, a20, a21, a17, rfl, hI⟩ := hu
  have hI' := hI
  obtain ⟨hW, hts, hstk, hK, hP1, hP, htp, t1, t2, t3, t4, t5, t6, t7, t8⟩ := hI'
  by_cases e6 : K = 6
  · exact ⟨-2, _, bu_mki hI, fun post h => br_t (by rw [e6]; rfl) h⟩
  have n6 : ¬ nI K = 6 := fun z => e6 ((nI_eq (b := 6) (by omega) (by decide)).mp z)
  by_cases h2 : 2 ≤ ts.length
  · cases ts with
    | nil => simp at h2
    | cons tR ts =>
      cases ts with
      | nil => simp at h2
      | cons tL ts =>
        obtain ⟨bR, s1, s2, s3, s4, s5, bL, g1, g2, g3, g4, g5, g6⟩ := hstk
        simp only [List.length_cons] at hts s1
        have e1 : nI (tR :: tL :: ts).length - 1 = nI (ts.length + 1) := nI_pred (ts.length + 1)
        have e2 : nI (tR :: tL :: ts).length - 2 = nI ts.length := pk_sub (a := ts.length + 2) (b := 2) (by omega)
        have ed : nI bR - nI bL = nI tL.length := by rw [pk_sub (by omega)]; congr 1; omega
        -- from here on: the state as it is, or the good way
        have bad : ∀ post : Int32 → St1 → Prop, post (-3) ((nI W), (nI (tR :: tL :: ts).length), (nI K), (nI P), (nI (bu_rt A)), li, a1, a2, a3, a4, a5, a6, a7, a8, a9, a10, a11, a12, a13, a14, a15, a16, a17, a18, a19, a20, a21) → wX_rule_92 post (nI bL) (nI bR) (nI W) (nI (tR :: tL :: ts).length) (nI K) (nI P) (nI (bu_rt A)) li a1 a2 a3 a4 a5 a6 a7 a8 a9 a10 a11 a12 a13 a14 a15 a16 a17 a18 a19 a20 a21 := by
          intro post h
          exact bu_vo (show bR ≤ 31 by omega) g2 g3 g5 (bu_vo hW s2 s3 s5 (br_f (by decide) h))
        have start : ∀ post : Int32 → St1 → Prop, (((nI bR - nI bL) = 1 → (vp_in (nI bL) 31 ∧ (((a1 (nI bL).toNatClampNeg) < 7 → wX_rule_69 post (nI bL) (nI bR) (nI W) (nI (tR :: tL :: ts).length) (nI K) (nI P) (nI (bu_rt A)) li a1 a2 a3 a4 a5 a6 a7 a8 a9 a10 a11 a12 a13 a14 a15 a16 a17 a18 a19 a20 a21) ∧ (¬ (a1 (nI bL).toNatClampNeg) < 7 → wX_rule_70 post (nI bL) (nI bR) 1 (nI W) (nI (tR :: tL :: ts).length) (nI K) (nI P) (nI (bu_rt A)) li a1 a2 a3 a4 a5 a6 a7 a8 a9 a10 a11 a12 a13 a14 a15 a16 a17 a18 a19 a20 a21)))) ∧ (¬ (nI bR - nI bL) = 1 → wX_rule_69 post (nI bL) (nI bR) (nI W) (nI (tR :: tL :: ts).length) (nI K) (nI P) (nI (bu_rt A)) li a1 a2 a3 a4 a5 a6 a7 a8 a9 a10 a11 a12 a13 a14 a15 a16 a17 a18 a19 a20 a21)) →
            wpX_rule post ((nI W), (nI (tR :: tL :: ts).length), (nI K), (nI P), (nI (bu_rt A)), li, a1, a2, a3, a4, a5, a6, a7, a8, a9, a10, a11, a12, a13, a14, a15, a16, a17, a18, a19, a20, a21) := by
          intro post h
          refine br_f n6 (br_t (nI_le (a := 2) h2 (by simp; omega)) ?_)
          rw [e1, e2, nI_clamp (show ts.length < 2 ^ 31 by omega), nI_clamp (show ts.length + 1 < 2 ^ 31 by omega), g1, s1]
          exact ⟨pk_in ts.length 6 (by omega), nm_e ⟨pk_in (ts.length + 1) 6 (by omega), nm_e h⟩⟩
        have w69 : bu_ev (fun post => wX_rule_69 post (nI bL) (nI bR) (nI W) (nI (tR :: tL :: ts).length) (nI K) (nI P) (nI (bu_rt A)) li a1 a2 a3 a4 a5 a6 a7 a8 a9 a10 a11 a12 a13 a14 a15 a16 a17 a18 a19 a20 a21) := by
          by_cases h7 : tL.length ≤ 7
          · obtain ⟨r, hr⟩ := bu_re (a1 := a1) (i := bL) (N := bR) (by omega) (by omega)
            have h7' : ¬ 7 < nI bR - nI bL := by rw [ed]; exact nI_nlt (a := 7) h7 (by decide)
            by_cases hr0 : r = 0
            · obtain ⟨r', u', hi', hw'⟩ := bu_r97 (li := li) (a18 := a18) (a19 := a19) (a20 := a20) (a21 := a21) hI s2 s3 s4 s5 g2 g3 g4 g5 g6 (by omega) h7
              exact ⟨r', u', hi', fun post h => br_t rfl (br_f h7' (hr _ (br_t hr0 (hw' post h))))⟩
            · exact ⟨-3, _, bu_mki hI, fun post h => br_t rfl (br_f h7' (hr _ (br_f hr0 (bad post h))))⟩
          · have h7' : 7 < nI bR - nI bL := by rw [ed]; exact nI_lt (a := 7) (by omega) (by omega)
            exact ⟨-3, _, bu_mki hI, fun post h => br_t rfl (br_t h7' (bad post h))⟩
        by_cases c1 : (nI bR - nI bL) = 1
        · by_cases c2 : (a1 (nI bL).toNatClampNeg) < 7
          · obtain ⟨r', u', hi', hw'⟩ := w69
            exact ⟨r', u', hi', fun post h => start post (br_t c1 ⟨pk_in bL 31 (by
              rw [ed] at c1
              have := (nI_eq (b := 1) (by omega) (by decide)).mp c1
              omega), br_t c2 (hw' post h)⟩)⟩
          · exact ⟨-3, _, bu_mki hI, fun post h => start post (br_t c1 ⟨pk_in bL 31 (by
              rw [ed] at c1
              have := (nI_eq (b := 1) (by omega) (by decide)).mp c1
              omega), br_f c2 (br_f (by decide) (bad post h))⟩)⟩
        · obtain ⟨r', u', hi', hw'⟩ := w69
          exact ⟨r', u', hi', fun post h => start post (br_f c1 (hw' post h))⟩
  · exact ⟨-3, _, bu_mki hI, fun post h => br_f n6 (br_f (nI_ge (a := ts.length) (b := 2) (by omega) (by decide)) h)⟩
end
section
/-! ruleAt, nextPlace, redexes, digest; bind, sizeOfRight, lineUpRight -/
def bu_ra (a10 : Nat → Int32) (v : Int64) : Nat → Nat → Int32
  | 0, _ => -4
  | m + 1, k => if (((v.toUInt64 >>> ((a10 k).toInt64.toUInt64 &&& Int64.toUInt64 63)).toInt64) &&& 1) = 1 then nI k else bu_ra a10 v m (k + 1)
theorem bu_ra2 {post : Int32 → Prop} {K x : Nat} {w h pa ro li : Int32} {a1 a2 a3 a4 a5 a6 a7 a8 a9 a10 a11 a12 a13 a14 a15 a16 a18 a19 a20 a21 : Nat → Int32} {a17 : Nat → Int64} (hK : K ≤ 6) (hx : x < 64) (m : Nat) : ∀ k, k + m = K → post (bu_ra a10 (a17 x) m k) → wX_ruleAt_2 post (nI x) w h (nI K) pa ro li a1 a2 a3 a4 a5 a6 a7 a8 a9 a10 a11 a12 a13 a14 a15 a16 a17 a18 a19 a20 a21 (m + 1) (nI k) := by
  induction m with
  | zero => intro k hk hp; exact pk_le K k (fun _ => hp) (fun z => absurd z (by omega))
  | succ m ih =>
    intro k hk hp
    refine pk_le K k (fun z => absurd z (by omega)) (fun _ => ⟨pk_in x 64 hx, pk_in k 6 (by omega), ?_⟩)
    rw [nI_clamp (show x < 2 ^ 31 by omega), nI_clamp (show k < 2 ^ 31 by omega)]
    refine br_c (fun e => ?_) (fun e => nm_r (nI_1 k) (ih (k + 1) (by omega) ?_))
    · rw [bu_ra, if_pos e] at hp; exact hp
    · rw [bu_ra, if_neg e] at hp; exact hp
theorem bu_rat {post : Int32 → Prop} {K x : Nat} {w h pa ro li : Int32} {a1 a2 a3 a4 a5 a6 a7 a8 a9 a10 a11 a12 a13 a14 a15 a16 a18 a19 a20 a21 : Nat → Int32} {a17 : Nat → Int64} (hK : K ≤ 6) (hx : x < 64) (hp : post (bu_ra a10 (a17 x) K 0)) : wpX_ruleAt post (w, h, (nI K), pa, ro, li, a1, a2, a3, a4, a5, a6, a7, a8, a9, a10, a11, a12, a13, a14, a15, a16, a17, a18, a19, a20, a21) (nI x) :=
  ⟨_, bu_ra2 hK hx K 0 (by omega) hp⟩
theorem bu_ra_or (a10 : Nat → Int32) (v : Int64) (m : Nat) : ∀ k, bu_ra a10 v m k = -4 ∨ ∃ j, k ≤ j ∧ j < k + m ∧ bu_ra a10 v m k = nI j ∧ bu_bt v (a10 j) := by
  induction m with
  | zero => intro k; exact Or.inl rfl
  | succ m ih =>
    intro k
    rw [bu_ra]
    split
    · rename_i e; exact Or.inr ⟨k, by omega, by omega, rfl, e⟩
    · rcases ih (k + 1) with h | ⟨j, h1, h2, h3, h4⟩
      · exact Or.inl h
      · exact Or.inr ⟨j, by omega, by omega, h3, h4⟩

def bu_nx (f : Nat → Int32) : List Nat → Nat → Int32
  | [], _ => -4
  | x :: l, i => if f x < 0 then bu_nx f l (i + 1) else nI i
theorem bu_nx_or (f : Nat → Int32) (l : List Nat) : ∀ i, (bu_nx f l i = -4 ∧ ∀ x, x ∈ l → f x < 0) ∨ ∃ j, ∃ h : j < l.length, bu_nx f l i = nI (i + j) ∧ ¬ f l[j] < 0 := by
  induction l with
  | nil => intro i; exact Or.inl ⟨rfl, fun x hx => by simp at hx⟩
  | cons x l ih =>
    intro i
    rw [bu_nx]
    split
    · rename_i e
      rcases ih (i + 1) with ⟨h, h'⟩ | ⟨j, h1, h2, h3⟩
      · refine Or.inl ⟨h, fun y hy => ?_⟩
        rcases List.mem_cons.mp hy with z | z
        · rw [z]; exact e
        · exact h' y z
      · exact Or.inr ⟨j + 1, by simp only [List.length_cons]; omega, by rw [h2]; congr 1; omega, by simpa using h3⟩
    · rename_i e
      exact Or.inr ⟨0, by simp, rfl, e⟩
theorem bu_np11 {post : Int32 → St1 → Prop} {K N : Nat} {w h pa ro li : Int32} {a1 a2 a3 a4 a5 a6 a7 a8 a9 a10 a11 a12 a13 a14 a15 a16 a18 a19 a20 a21 : Nat → Int32} {a17 : Nat → Int64} (hK : K ≤ 6) (hN : N ≤ 31) (l : List Nat) : ∀ i, i + l.length = N → bu_at a19 i l → (∀ x, x ∈ l → x < 64) →
    post (bu_nx (fun x => bu_ra a10 (a17 x) K 0) l i) (w, h, (nI K), pa, ro, li, a1, a2, a3, a4, a5, a6, a7, a8, a9, a10, a11, a12, a13, a14, a15, a16, a17, a18, a19, a20, a21) → wX_nextPlace_11 post (nI N) w h (nI K) pa ro li a1 a2 a3 a4 a5 a6 a7 a8 a9 a10 a11 a12 a13 a14 a15 a16 a17 a18 a19 a20 a21 (l.length + 1) (nI i) := by
  induction l with
  | nil =>
    intro i hi _ _ hp
    simp only [List.length_nil, Nat.add_zero] at hi
    exact pk_le N i (fun _ => hp) (fun z => absurd z (by omega))
  | cons x l ih =>
    intro i hi hat hx hp
    simp only [List.length_cons] at hi
    refine pk_le N i (fun z => absurd z (by omega)) (fun _ => ⟨pk_in i 32 (by omega), ?_⟩)
    rw [nI_clamp (show i < 2 ^ 31 by omega), hat.1]
    refine bu_rat hK (hx x (by simp)) (br_c (fun e => nm_r (nI_1 i) (ih (i + 1) (by omega) hat.2 (fun y hy => hx y (by simp [hy])) ?_)) (fun e => ?_))
    · rw [bu_nx, if_pos e] at hp; exact hp
    · rw [bu_nx, if_neg e] at hp; exact hp

/-! bind -/
def bu_gd (P : Nat) (a7 a8 a9 a12 a13 a14 a16 : Nat → Int32) (a17 : Nat → Int64) (B : bu_T) : Prop := 0 < bu_sz B ∧ bu_sz B ≤ 31 ∧ bu_al (bu_ok P a7 a8 a9 a12 a13 a14 a16 a17) B
def bu_mt (P : Nat) (a7 a8 a9 a12 a13 a14 a16 : Nat → Int32) (a17 : Nat → Int64) : List Nat → List bu_T → Prop
  | [], [] => True
  | q :: qs, B :: bs => (bu_gd P a7 a8 a9 a12 a13 a14 a16 a17 B ∧ (q = 0 ∨ bu_bt (a17 (bu_rt B)) (nI q))) ∧ bu_mt P a7 a8 a9 a12 a13 a14 a16 a17 qs bs
  | _, _ => False
theorem bu_mt_len {P : Nat} {a7 a8 a9 a12 a13 a14 a16 : Nat → Int32} {a17 : Nat → Int64} (ps : List Nat) : ∀ st, bu_mt P a7 a8 a9 a12 a13 a14 a16 a17 ps st → ps.length = st.length := by
  induction ps with
  | nil => intro st h; cases st with
    | nil => rfl
    | cons B st => exact absurd h (by simp [bu_mt])
  | cons q qs ih => intro st h; cases st with
    | nil => exact absurd h (by simp [bu_mt])
    | cons B st => simp only [List.length_cons]; rw [ih st h.2]
theorem bu_dn_len {P : Nat} {a7 a8 a9 : Nat → Int32} (l : List Nat) : ∀ ps, bu_dn P a7 a8 a9 l ps → ps.length ≤ l.length := by
  induction l with
  | nil => intro ps h; simp only [bu_dn] at h; subst h; simp
  | cons s l ih =>
    intro ps h
    obtain ⟨q, qs, rfl, h⟩ := h
    rcases h with ⟨_, _, h⟩ | ⟨_, _, _, _, q1, q2, _, _, h⟩
    · have := ih _ h; simp only [List.length_cons]; omega
    · have := ih _ h; simp only [List.length_cons, List.length_append] at this ⊢; omega
theorem bu_b12 {P k N : Nat} {a3 a4 a7 a8 a9 a12 a13 a14 a16 : Nat → Int32} {a17 : Nat → Int64} (hk : k < 6) (hP : P ≤ 48) (hN : N ≤ 7) (h3 : a3 k = nI N) (l : List Nat) : ∀ (i : Nat) (ps : List Nat) (st : List bu_T) (a20 a21 : Nat → Int32), i + l.length = N → bu_at a4 (k * 7 + i) l → (∀ s, s ∈ l → s ≤ 9) → bu_dn P a7 a8 a9 l ps → bu_mt P a7 a8 a9 a12 a13 a14 a16 a17 ps st → bu_pl a20 st →
    ∃ b20 b21 : Nat → Int32, (∀ v, (∃ B, bu_gd P a7 a8 a9 a12 a13 a14 a16 a17 B ∧ a21 v = nI (bu_rt B)) ∨ v + 7 ∈ l → ∃ B, bu_gd P a7 a8 a9 a12 a13 a14 a16 a17 B ∧ b21 v = nI (bu_rt B)) ∧
      ∀ {w h ru pa ro li : Int32} {a1 a2 a5 a6 a10 a11 a15 a18 a19 : Nat → Int32} (post : St1 → Prop), post (w, h, ru, pa, ro, li, a1, a2, a3, a4, a5, a6, a7, a8, a9, a10, a11, a12, a13, a14, a15, a16, a17, a18, a19, b20, b21) → wX_bind_12 post (nI k) w h ru pa ro li (l.length + 1) (nI st.length) (nI i) a1 a2 a3 a4 a5 a6 a7 a8 a9 a10 a11 a12 a13 a14 a15 a16 a17 a18 a19 a20 a21 := by
  induction l with
  | nil =>
    intro i ps st a20 a21 hi _ _ _ _ _
    simp only [List.length_nil, Nat.add_zero] at hi
    refine ⟨a20, a21, fun v hv => ?_, ?_⟩
    · rcases hv with h | h
      · exact h
      · simp at h
    · intros; rename_i post hp
      refine ⟨pk_in k 6 hk, ?_⟩
      rw [nI_clamp (show k < 2 ^ 31 by omega), h3]
      exact pk_le N i (fun _ => hp) (fun z => absurd z (by omega))
  | cons s l ih =>
    intro i ps st a20 a21 hi hat hs hdn hmt hpl
    simp only [List.length_cons] at hi
    have s9 := hs s (by simp)
    obtain ⟨q, qs, rfl, hd⟩ := hdn
    cases st with
    | nil => exact absurd hmt (by simp [bu_mt])
    | cons B st =>
    obtain ⟨⟨⟨B0, B31, Bok⟩, hq⟩, hmt'⟩ := hmt
    obtain ⟨hp1, hpl'⟩ := hpl
    have shB := bu_nd_sh (bu_ok_nd Bok)
    have rB := bu_sh_rt shB
    have hlq := bu_mt_len _ _ hmt'
    have ei : (nI k * 7) + nI i = nI (k * 7 + i) := by rw [show (7 : Int32) = nI 7 from rfl, pk_mul, nI_add]
    have head : ∀ {w h ru pa ro li : Int32} {a1 a2 a5 a6 a10 a11 a15 a18 a19 : Nat → Int32} (post : St1 → Prop) (n : Nat), st.length < 64 →
        ((nI s < 7 → (wpX_parts (fun r_11 => (((r_11 ≤ 1 → (wX_bind_100 post (wX_bind_12 post (nI k) w h ru pa ro li n) (nI k) (nI st.length) (nI i) (nI (bu_rt B)) r_11 w h ru pa ro li a1 a2 a3 a4 a5 a6 a7 a8 a9 a10 a11 a12 a13 a14 a15 a16 a17 a18 a19 a20 a21)) ∧ (¬ r_11 ≤ 1 → (vp_in (nI (bu_rt B)) 64 ∧ (vp_in (nI st.length) 64 ∧ ∀ a20_22 : Nat → Int32, a20_22 = upd a20 (nI st.length).toNatClampNeg (a14 (nI (bu_rt B)).toNatClampNeg) → (∀ x3_23 : Int32, x3_23 = nI st.length + 1 → (wX_bind_100 post (wX_bind_12 post (nI k) w h ru pa ro li n) (nI k) x3_23 (nI i) (nI (bu_rt B)) r_11 w h ru pa ro li a1 a2 a3 a4 a5 a6 a7 a8 a9 a10 a11 a12 a13 a14 a15 a16 a17 a18 a19 a20_22 a21)))))))) (w, h, ru, pa, ro, li, a1, a2, a3, a4, a5, a6, a7, a8, a9, a10, a11, a12, a13, a14, a15, a16, a17, a18, a19, a20, a21) (nI s))) ∧
          (¬ nI s < 7 → (vp_in (nI s - 7) 3 ∧ ∀ a21_25 : Nat → Int32, a21_25 = upd a21 (nI s - 7).toNatClampNeg (nI (bu_rt B)) → (∀ x4_26 : Int32, x4_26 = nI i + 1 → (wX_bind_12 post (nI k) w h ru pa ro li n (nI st.length) x4_26 a1 a2 a3 a4 a5 a6 a7 a8 a9 a10 a11 a12 a13 a14 a15 a16 a17 a18 a19 a20 a21_25))))) →
        wX_bind_12 post (nI k) w h ru pa ro li (n + 1) (nI (B :: st).length) (nI i) a1 a2 a3 a4 a5 a6 a7 a8 a9 a10 a11 a12 a13 a14 a15 a16 a17 a18 a19 a20 a21 := by
      intro w h ru pa ro li a1 a2 a5 a6 a10 a11 a15 a18 a19 post n hst hh
      refine ⟨pk_in k 6 hk, ?_⟩
      rw [nI_clamp (show k < 2 ^ 31 by omega), h3]
      refine pk_le N i (fun z => absurd z (by omega)) (fun _ => ?_)
      rw [ei, nI_clamp (show k * 7 + i < 2 ^ 31 by omega), hat.1]
      refine ⟨pk_in (k * 7 + i) 42 (by omega), nm_e (nm_r (e' := nI st.length) (pk_m1 st.length) ⟨pk_in st.length 64 hst, nm_r (e' := nI (bu_rt B)) ?_ hh⟩)⟩
      rw [nI_clamp (show st.length < 2 ^ 31 by omega)]; exact hp1
    rcases hd with ⟨v7, q0, hdn'⟩ | ⟨v7, q1', qP, h7, q1, q2, h8, h9, hdn'⟩
    · have hlen := bu_dn_len _ _ hdn'
      obtain ⟨b20, b21, g1, g2⟩ := ih (i + 1) qs st a20 (upd a21 (s - 7) (nI (bu_rt B))) (by omega) hat.2 (fun s' h' => hs s' (by simp [h'])) hdn' hmt' hpl'
      refine ⟨b20, b21, fun v hv => g1 v ?_, ?_⟩
      · by_cases e : v = s - 7
        · exact Or.inl ⟨B, ⟨B0, B31, Bok⟩, by rw [e]; exact pk_us⟩
        · rw [pk_un e]
          rcases hv with h | h
          · exact Or.inl h
          · rcases List.mem_cons.mp h with z | z
            · omega
            · exact Or.inr z
      · intro w h ru pa ro li a1 a2 a5 a6 a10 a11 a15 a18 a19 post hp
        have es : nI s - 7 = nI (s - 7) := pk_sub (a := s) (b := 7) v7
        refine head post (l.length + 1) (by omega) (br_f (nI_nlt (a := s) (b := 7) v7 (by omega)) ?_)
        rw [es, nI_clamp (show s - 7 < 2 ^ 31 by omega)]
        exact ⟨pk_in (s - 7) 3 (by omega), nm_e (nm_r (nI_1 i) (g2 post hp))⟩
    · have hlen := bu_dn_len _ _ hdn'
      rw [List.length_append] at hlen
      have hq' : bu_bt (a17 (bu_rt B)) (nI q) := by
        rcases hq with e | e
        · omega
        · exact e
      cases B with
      | leaf u => simp [bu_sz] at B0
      | branch kx bl br =>
      obtain ⟨⟨⟨⟨k0, k1, k13, k14⟩, s', s6, k12, has, hasb⟩, k16, kf⟩, okl, okr⟩ := Bok
      obtain ⟨f0, f1, f2, f3⟩ := kf q q1' (by omega) hq'
      have es : s = s' := by
        have : nI s = nI s' := by rw [← h7, f1, k12]
        exact (nI_eq (by omega) (by omega)).mp this
      subst es
      have shl := bu_nd_sh (bu_ok_nd okl)
      have shr := bu_nd_sh (bu_ok_nd okr)
      have rl := bu_sh_rt shl
      have rr := bu_sh_rt shr
      have szB : bu_sz (.branch kx bl br) = 1 + bu_sz bl + bu_sz br := rfl
      have hbl := bu_b_01 bl
      have hbr := bu_b_01 br
      have gl : 0 < bu_sz bl → bu_gd P a7 a8 a9 a12 a13 a14 a16 a17 bl ∧ (q1 = 0 ∨ bu_bt (a17 (bu_rt bl)) (nI q1)) := by
        intro z
        refine ⟨⟨z, by omega, okl⟩, Or.inr ?_⟩
        have hp := (bu_sh_pos shl).mp z
        have t := f2 (by rw [k13]; exact nI_ne0 hp (by omega))
        rw [k13, nI_clamp (show bu_rt bl < 2 ^ 31 by omega), h8] at t
        exact t
      have gr : 0 < bu_sz br → bu_gd P a7 a8 a9 a12 a13 a14 a16 a17 br ∧ (q2 = 0 ∨ bu_bt (a17 (bu_rt br)) (nI q2)) := by
        intro z
        refine ⟨⟨z, by omega, okr⟩, Or.inr ?_⟩
        have hp := (bu_sh_pos shr).mp z
        have t := f3 (by rw [k14]; exact nI_ne0 hp (by omega))
        rw [k14, nI_clamp (show bu_rt br < 2 ^ 31 by omega), h9] at t
        exact t
      have hc : bu_ar s = 0 ∨ bu_ar s = 1 ∨ bu_ar s = 2 := by omega
      have ck : (nI (bu_rt (.branch kx bl br))).toNatClampNeg = kx := nI_clamp (show kx < 2 ^ 31 by omega)
      rcases hc with e | e | e
      · rw [e] at hdn'
        obtain ⟨b20, b21, g1, g2⟩ := ih (i + 1) qs st a20 a21 (by omega) hat.2 (fun s' h' => hs s' (by simp [h'])) hdn' hmt' hpl'
        refine ⟨b20, b21, fun v hv => g1 v ?_, ?_⟩
        · rcases hv with h | h
          · exact Or.inl h
          · rcases List.mem_cons.mp h with z | z
            · omega
            · exact Or.inr z
        · intro w h ru pa ro li a1 a2 a5 a6 a10 a11 a15 a18 a19 post hp
          refine head post (l.length + 1) (by omega) (br_t (nI_lt (a := s) (b := 7) v7 (by decide)) (bu_parts s9 ?_))
          rw [e]
          exact br_t (nI_le (a := 0) (b := 1) (by omega) (by decide)) (br_t (nI_le (a := 0) (b := 0) (by omega) (by decide)) (nm_r (nI_1 i) (g2 post hp)))
      · rw [e] at hdn'
        have zl : 0 < bu_sz bl := bu_sz_b.mpr (by omega)
        obtain ⟨b20, b21, g1, g2⟩ := ih (i + 1) (q1 :: qs) (bl :: st) (upd a20 st.length (nI (bu_rt bl))) a21 (by omega) hat.2 (fun s' h' => hs s' (by simp [h'])) hdn' ⟨gl zl, hmt'⟩ ⟨pk_us, bu_pl_upd hpl' (by omega)⟩
        refine ⟨b20, b21, fun v hv => g1 v ?_, ?_⟩
        · rcases hv with h | h
          · exact Or.inl h
          · rcases List.mem_cons.mp h with z | z
            · omega
            · exact Or.inr z
        · intro w h ru pa ro li a1 a2 a5 a6 a10 a11 a15 a18 a19 post hp
          have hlen2 := bu_dn_len _ _ hdn'
          refine head post (l.length + 1) (by omega) (br_t (nI_lt (a := s) (b := 7) v7 (by decide)) (bu_parts s9 ?_))
          rw [e]
          refine br_t (nI_le (a := 1) (b := 1) (by omega) (by decide)) (br_f (nI_ge (a := 0) (b := 1) (by omega) (by decide)) ?_)
          rw [ck, k13, nI_clamp (show st.length < 2 ^ 31 by omega)]
          exact ⟨pk_in kx 64 k1, pk_in st.length 64 (by omega), nm_e (nm_r (nI_1 st.length) (nm_r (nI_1 i) (g2 post hp)))⟩
      · rw [e] at hdn'
        have zl : 0 < bu_sz bl := bu_sz_b.mpr (by omega)
        have zr : 0 < bu_sz br := bu_sz_b.mpr (by omega)
        have hlen2 := bu_dn_len _ _ hdn'
        simp only [bu_tk, List.length_append] at hlen2
        obtain ⟨b20, b21, g1, g2⟩ := ih (i + 1) (q1 :: q2 :: qs) (bl :: br :: st) (upd (upd a20 st.length (nI (bu_rt br))) (st.length + 1) (nI (bu_rt bl))) a21 (by omega) hat.2 (fun s' h' => hs s' (by simp [h'])) hdn' ⟨gl zl, gr zr, hmt'⟩ ⟨pk_us, by rw [pk_un (by omega)]; exact pk_us, bu_pl_upd (bu_pl_upd hpl' (by omega)) (by omega)⟩
        refine ⟨b20, b21, fun v hv => g1 v ?_, ?_⟩
        · rcases hv with h | h
          · exact Or.inl h
          · rcases List.mem_cons.mp h with z | z
            · omega
            · exact Or.inr z
        · intro w h ru pa ro li a1 a2 a5 a6 a10 a11 a15 a18 a19 post hp
          refine head post (l.length + 1) (by omega) (br_t (nI_lt (a := s) (b := 7) v7 (by decide)) (bu_parts s9 ?_))
          rw [e]
          refine br_f (nI_ge (a := 1) (b := 2) (by omega) (by decide)) ?_
          rw [ck, k14, nI_clamp (show st.length < 2 ^ 31 by omega)]
          refine ⟨pk_in kx 64 k1, pk_in st.length 64 (by omega), nm_e (nm_r (nI_1 st.length) (br_f (nI_ge (a := 0) (b := 2) (by omega) (by decide)) ?_))⟩
          rw [ck, k13, nI_clamp (show st.length + 1 < 2 ^ 31 by omega)]
          exact ⟨pk_in kx 64 k1, pk_in (st.length + 1) 64 (by omega), nm_e (nm_r (nI_1 (st.length + 1)) (nm_r (nI_1 i) (g2 post hp)))⟩
/-- bind(k, x) where rule k fits at x -/
theorem bu_bind {P k q : Nat} {L : List Nat} {X : bu_T} {a3 a4 a7 a8 a9 a12 a13 a14 a16 a20 a21 : Nat → Int32} {a17 : Nat → Int64} (hk : k < 6) (hP : P ≤ 48) (h3 : a3 k = nI L.length) (hl : L.length ≤ 7) (hat : bu_at a4 (k * 7) L) (hs : ∀ s, s ∈ L → s ≤ 9) (hdn : bu_dn P a7 a8 a9 L [q]) (hX : bu_gd P a7 a8 a9 a12 a13 a14 a16 a17 X) (hq : bu_bt (a17 (bu_rt X)) (nI q)) :
    ∃ (b20 b21 : Nat → Int32) (Bv : Nat → bu_T), (∀ s, s ∈ L → 7 ≤ s → bu_gd P a7 a8 a9 a12 a13 a14 a16 a17 (Bv s) ∧ b21 (s - 7) = nI (bu_rt (Bv s))) ∧
      ∀ {w h ru pa ro li : Int32} {a1 a2 a5 a6 a10 a11 a15 a18 a19 : Nat → Int32} (post : St1 → Prop), post (w, h, ru, pa, ro, li, a1, a2, a3, a4, a5, a6, a7, a8, a9, a10, a11, a12, a13, a14, a15, a16, a17, a18, a19, b20, b21) → wpX_bind post (w, h, ru, pa, ro, li, a1, a2, a3, a4, a5, a6, a7, a8, a9, a10, a11, a12, a13, a14, a15, a16, a17, a18, a19, a20, a21) (nI k) (nI (bu_rt X)) := by
  obtain ⟨b20, b21, g1, g2⟩ := bu_b12 (P := P) (a12 := a12) (a13 := a13) (a14 := a14) (a16 := a16) (a17 := a17) hk hP hl h3 L 0 [q] [X] (upd a20 0 (nI (bu_rt X))) a21 (by omega) hat hs hdn ⟨⟨hX, Or.inr hq⟩, trivial⟩ ⟨pk_us, trivial⟩
  have hB : ∀ s, ∃ B, s ∈ L → 7 ≤ s → bu_gd P a7 a8 a9 a12 a13 a14 a16 a17 B ∧ b21 (s - 7) = nI (bu_rt B) := by
    intro s
    by_cases h : s ∈ L ∧ 7 ≤ s
    · obtain ⟨B, hB⟩ := g1 (s - 7) (Or.inr (by rw [show s - 7 + 7 = s by omega]; exact h.1))
      exact ⟨B, fun _ _ => hB⟩
    · exact ⟨.leaf (), fun h1 h2 => absurd ⟨h1, h2⟩ h⟩
  refine ⟨b20, b21, fun s => Classical.choose (hB s), fun s => Classical.choose_spec (hB s), ?_⟩
  intros; rename_i post hp
  exact nm_e ⟨_, g2 post hp⟩
end
section
/-! sizeOfRight, lineUpRight -/
def bu_rz (Bv : Nat → bu_T) : List Nat → Nat
  | [] => 0
  | s :: l => (if s < 7 then 1 else bu_sz (Bv s)) + bu_rz Bv l
theorem bu_rz_le {Bv : Nat → bu_T} (l : List Nat) (h : ∀ s, s ∈ l → 7 ≤ s → bu_sz (Bv s) ≤ 31) : bu_rz Bv l ≤ 31 * l.length := by
  induction l with
  | nil => simp [bu_rz]
  | cons s l ih =>
    have := ih (fun s' h' => h s' (by simp [h']))
    simp only [bu_rz, List.length_cons]
    split
    · omega
    · have := h s (by simp) (by omega); omega
theorem bu_sr4 {post : Int32 → Prop} {P k N : Nat} {Bv : Nat → bu_T} {w h ru pa ro li : Int32} {a1 a2 a3 a4 a5 a6 a7 a8 a9 a10 a11 a12 a13 a14 a15 a16 a18 a19 a20 a21 : Nat → Int32} {a17 : Nat → Int64} (hk : k < 6) (hN : N ≤ 31) (h5 : a5 k = nI N) (h16 : a16 0 = 0) (l : List Nat) : ∀ (i c : Nat), i + l.length = N → bu_at a6 (k * 31 + i) l → (∀ s, s ∈ l → s ≤ 9) →
    (∀ s, s ∈ l → 7 ≤ s → bu_gd P a7 a8 a9 a12 a13 a14 a16 a17 (Bv s) ∧ a21 (s - 7) = nI (bu_rt (Bv s))) → post (nI (c + bu_rz Bv l)) → wX_sizeOfRight_4 post (nI k) w h ru pa ro li a1 a2 a3 a4 a5 a6 a7 a8 a9 a10 a11 a12 a13 a14 a15 a16 a17 a18 a19 a20 a21 (l.length + 1) (nI c) (nI i) := by
  induction l with
  | nil =>
    intro i c hi _ _ _ hp
    simp only [List.length_nil, Nat.add_zero] at hi
    refine ⟨pk_in k 6 hk, ?_⟩
    rw [nI_clamp (show k < 2 ^ 31 by omega), h5]
    exact pk_le N i (fun _ => hp) (fun z => absurd z (by omega))
  | cons s l ih =>
    intro i c hi hat hs hB hp
    simp only [List.length_cons] at hi
    have s9 := hs s (by simp)
    have ei : (nI k * 31) + nI i = nI (k * 31 + i) := by rw [show (31 : Int32) = nI 31 from rfl, pk_mul, nI_add]
    have ih' := fun c' => ih (i + 1) c' (by omega) hat.2 (fun s' h' => hs s' (by simp [h'])) (fun s' h' => hB s' (by simp [h']))
    refine ⟨pk_in k 6 hk, ?_⟩
    rw [nI_clamp (show k < 2 ^ 31 by omega), h5]
    refine pk_le N i (fun z => absurd z (by omega)) (fun _ => ?_)
    rw [ei, nI_clamp (show k * 31 + i < 2 ^ 31 by omega), hat.1]
    refine ⟨pk_in (k * 31 + i) 186 (by omega), nm_e (pk_lt s 7 (fun z => nm_r (nI_1 c) (nm_r (nI_1 i) (ih' (c + 1) ?_))) (fun z => ?_))⟩
    · rw [bu_rz, if_pos z, ← Nat.add_assoc] at hp; exact hp
    · have es : nI s - 7 = nI (s - 7) := pk_sub (a := s) (b := 7) z
      obtain ⟨⟨g1, g2, g3⟩, g4⟩ := hB s (by simp) z
      have rB := bu_sh_rt (bu_nd_sh (bu_ok_nd g3))
      rw [es, nI_clamp (show s - 7 < 2 ^ 31 by omega), g4, nI_clamp (show bu_rt (Bv s) < 2 ^ 31 by omega), bu_ok_size g3 h16]
      refine ⟨pk_in (s - 7) 3 (by omega), pk_in (bu_rt (Bv s)) 64 rB, nm_r (nI_add c _) (nm_r (nI_1 i) (ih' _ ?_))⟩
      rw [bu_rz, if_neg (by omega), ← Nat.add_assoc] at hp; exact hp
theorem bu_sr {post : Int32 → Prop} {P k : Nat} {R : List Nat} {Bv : Nat → bu_T} {w h ru pa ro li : Int32} {a1 a2 a3 a4 a5 a6 a7 a8 a9 a10 a11 a12 a13 a14 a15 a16 a18 a19 a20 a21 : Nat → Int32} {a17 : Nat → Int64} (hk : k < 6) (hN : R.length ≤ 31) (h5 : a5 k = nI R.length) (h16 : a16 0 = 0) (hat : bu_at a6 (k * 31) R) (hs : ∀ s, s ∈ R → s ≤ 9)
    (hB : ∀ s, s ∈ R → 7 ≤ s → bu_gd P a7 a8 a9 a12 a13 a14 a16 a17 (Bv s) ∧ a21 (s - 7) = nI (bu_rt (Bv s))) (hp : post (nI (bu_rz Bv R))) : wpX_sizeOfRight post (w, h, ru, pa, ro, li, a1, a2, a3, a4, a5, a6, a7, a8, a9, a10, a11, a12, a13, a14, a15, a16, a17, a18, a19, a20, a21) (nI k) :=
  ⟨_, bu_sr4 (P := P) (Bv := Bv) hk hN h5 h16 R 0 0 (by omega) hat hs hB (by rw [Nat.zero_add]; exact hp)⟩

/-- the symbols of a tree -/
def bu_sy (a12 : Nat → Int32) : List Nat → List Nat → Prop
  | [], [] => True
  | x :: xs, s :: ss => a12 x = nI s ∧ bu_sy a12 xs ss
  | _, _ => False
theorem bu_sy_app {a12 : Nat → Int32} (xs : List Nat) : ∀ ss ys ts, bu_sy a12 xs ss → bu_sy a12 ys ts → bu_sy a12 (xs ++ ys) (ss ++ ts) := by
  induction xs with
  | nil => intro ss ys ts h g; cases ss with
    | nil => exact g
    | cons s ss => exact absurd h (by simp [bu_sy])
  | cons x xs ih => intro ss ys ts h g; cases ss with
    | nil => exact absurd h (by simp [bu_sy])
    | cons s ss => exact ⟨h.1, ih _ _ _ h.2 g⟩
theorem bu_sy_len {a12 : Nat → Int32} (xs : List Nat) : ∀ ss, bu_sy a12 xs ss → ss.length = xs.length := by
  induction xs with
  | nil => intro ss h; cases ss with
    | nil => rfl
    | cons s ss => exact absurd h (by simp [bu_sy])
  | cons x xs ih => intro ss h; cases ss with
    | nil => exact absurd h (by simp [bu_sy])
    | cons s ss => simp only [List.length_cons]; rw [ih ss h.2]
theorem bu_sy_ex {a12 a13 a14 : Nat → Int32} {B : bu_T} (h : bu_al (bu_nd a12 a13 a14) B) : ∃ ss, bu_sy a12 (bu_ad B) ss ∧ bu_tm ss (bu_b B) ∧ ∀ s, s ∈ ss → s ≤ 6 := by
  induction B with
  | leaf u => exact ⟨[], trivial, rfl, fun s hs => by simp at hs⟩
  | branch k l r ihl ihr =>
    obtain ⟨⟨_, s, s6, k12, has, _⟩, hl, hr⟩ := h
    obtain ⟨sl, l1, l2, l3⟩ := ihl hl
    obtain ⟨sr, r1, r2, r3⟩ := ihr hr
    refine ⟨s :: (sl ++ sr), ⟨k12, bu_sy_app _ _ _ _ l1 r1⟩, ⟨0, rfl, by rw [Nat.zero_add, has]; exact bu_tm_app l2 r2⟩, fun x hx => ?_⟩
    simp only [List.mem_cons, List.mem_append] at hx
    rcases hx with z | z | z
    · omega
    · exact l3 x z
    · exact r3 x z
theorem bu_lr67 {N : Nat} {x1 : Int32} {x3 : Nat} {a12 a19 : Nat → Int32} (hN : N ≤ 31) (xs : List Nat) : ∀ (j : Nat) (ss ln : List Nat) (a18 : Nat → Int32), j + xs.length = N → bu_at a19 j xs → (∀ x, x ∈ xs → x < 64) → bu_sy a12 xs ss → bu_at a18 0 ln → ln.length + xs.length ≤ 31 →
    ∃ b18 : Nat → Int32, bu_at b18 0 (ln ++ ss) ∧ ∀ {w h ru pa ro li : Int32} {a1 a2 a3 a4 a5 a6 a7 a8 a9 a10 a11 a13 a14 a15 a16 a20 a21 : Nat → Int32} {a17 : Nat → Int64} (post : St1 → Prop) (J : Int32 → Int32 → Int32 → Int32 → Int32 → Int32 → Int32 → Int32 → (Nat → Int32) → (Nat → Int32) → (Nat → Int32) → (Nat → Int32) → (Nat → Int32) → (Nat → Int32) → (Nat → Int32) → (Nat → Int32) → (Nat → Int32) → (Nat → Int32) → (Nat → Int32) → (Nat → Int32) → (Nat → Int32) → (Nat → Int32) → (Nat → Int32) → (Nat → Int32) → (Nat → Int64) → (Nat → Int32) → (Nat → Int32) → (Nat → Int32) → (Nat → Int32) → Prop), J (nI (ln.length + xs.length)) (nI (x3 + 1)) w h ru pa ro li a1 a2 a3 a4 a5 a6 a7 a8 a9 a10 a11 a12 a13 a14 a15 a16 a17 b18 a19 a20 a21 → wX_lineUpRight_67 post J x1 (nI x3) (nI N) w h ru pa ro li (xs.length + 1) (nI ln.length) (nI j) a1 a2 a3 a4 a5 a6 a7 a8 a9 a10 a11 a12 a13 a14 a15 a16 a17 a18 a19 a20 a21 := by
  induction xs with
  | nil =>
    intro j ss ln a18 hj _ _ hsy hat _
    simp only [List.length_nil, Nat.add_zero] at hj ⊢
    cases ss with
    | cons s ss => exact absurd hsy (by simp [bu_sy])
    | nil =>
      refine ⟨a18, by simpa using hat, ?_⟩
      intros; rename_i post J hJ
      exact pk_le N j (fun _ => nm_r (nI_1 x3) hJ) (fun z => absurd z (by omega))
  | cons x xs ih =>
    intro j ss ln a18 hj hat19 hx hsy hat hl
    simp only [List.length_cons] at hj hl ⊢
    cases ss with
    | nil => exact absurd hsy (by simp [bu_sy])
    | cons s ss =>
      have x64 := hx x (by simp)
      obtain ⟨b18, g1, g2⟩ := ih (j + 1) ss (ln ++ [s]) (upd a18 ln.length (nI s)) (by omega) hat19.2 (fun y hy => hx y (by simp [hy])) hsy.2 (by have := bu_at_snoc (s := s) hat; rw [Nat.zero_add] at this; exact this) (by simp; omega)
      refine ⟨b18, by simpa using g1, ?_⟩
      intros; rename_i post J hJ
      have t := g2 post J (by
        rw [List.length_append, show ln.length + [s].length + xs.length = ln.length + (xs.length + 1) by simp; omega]; exact hJ)
      rw [List.length_append] at t
      refine pk_le N j (fun z => absurd z (by omega)) (fun _ => ?_)
      rw [nI_clamp (show j < 2 ^ 31 by omega), hat19.1, nI_clamp (show x < 2 ^ 31 by omega), hsy.1, nI_clamp (show ln.length < 2 ^ 31 by omega)]
      exact ⟨pk_in j 32 (by omega), pk_in x 64 x64, pk_in ln.length 32 (by omega), nm_e (nm_r (nI_1 ln.length) (nm_r (nI_1 j) t))⟩
theorem bu_lr4 {P k N : Nat} {Bv : Nat → bu_T} {a5 a6 a7 a8 a9 a12 a13 a14 a16 a21 : Nat → Int32} {a17 : Nat → Int64} (hk : k < 6) (hN : N ≤ 31) (h5 : a5 k = nI N) (l : List Nat) : ∀ (i c : Nat) (ln : List Nat) (a18 a19 a20 : Nat → Int32), i + l.length = N → bu_at a6 (k * 31 + i) l → (∀ s, s ∈ l → s ≤ 9) →
    (∀ s, s ∈ l → 7 ≤ s → bu_gd P a7 a8 a9 a12 a13 a14 a16 a17 (Bv s) ∧ a21 (s - 7) = nI (bu_rt (Bv s))) → bu_tm l c → bu_at a18 0 ln → ln.length + bu_rz Bv l ≤ 31 →
    ∃ (b18 b19 b20 : Nat → Int32) (rs : List Nat), bu_at b18 0 (ln ++ rs) ∧ bu_tm rs c ∧ (∀ s, s ∈ rs → s ≤ 6) ∧ rs.length = bu_rz Bv l ∧
      ∀ {w h ru pa ro li : Int32} {a1 a2 a3 a4 a10 a11 a15 : Nat → Int32} (post : St1 → Prop), post (w, h, ru, pa, ro, (nI (ln ++ rs).length), a1, a2, a3, a4, a5, a6, a7, a8, a9, a10, a11, a12, a13, a14, a15, a16, a17, b18, b19, b20, a21) → wX_lineUpRight_4 post (nI k) (l.length + 1) (nI ln.length) (nI i) w h ru pa ro li a1 a2 a3 a4 a5 a6 a7 a8 a9 a10 a11 a12 a13 a14 a15 a16 a17 a18 a19 a20 a21 := by
  induction l with
  | nil =>
    intro i c ln a18 a19 a20 hi _ _ _ htm hat _
    simp only [List.length_nil, Nat.add_zero] at hi
    refine ⟨a18, a19, a20, [], by simpa using hat, htm, fun s hs => by simp at hs, rfl, ?_⟩
    intros; rename_i post hp
    refine ⟨pk_in k 6 hk, ?_⟩
    rw [nI_clamp (show k < 2 ^ 31 by omega), h5]
    rw [List.append_nil] at hp
    exact pk_le N i (fun _ => hp) (fun z => absurd z (by omega))
  | cons s l ih =>
    intro i c ln a18 a19 a20 hi hat6 hs hB htm hat hl
    simp only [List.length_cons] at hi
    have s9 := hs s (by simp)
    obtain ⟨m, rfl, htm'⟩ := htm
    have ei : (nI k * 31) + nI i = nI (k * 31 + i) := by rw [show (31 : Int32) = nI 31 from rfl, pk_mul, nI_add]
    have erz : bu_rz Bv (s :: l) = (if s < 7 then 1 else bu_sz (Bv s)) + bu_rz Bv l := rfl
    by_cases h7 : 7 ≤ s
    · rw [if_neg (by omega)] at erz
      rw [bu_ar_var h7, Nat.add_zero] at htm'
      obtain ⟨⟨g1, g2, g3⟩, g4⟩ := hB s (by simp) h7
      have ndB := bu_ok_nd g3
      obtain ⟨Wo, Wp, w1, w2⟩ := bu_lp (bu_nd_sh ndB) g1 g2
      obtain ⟨ss, y1, y2, y3⟩ := bu_sy_ex ndB
      have ysl : ss.length = bu_sz (Bv s) := by rw [bu_sy_len _ _ y1, bu_len]
      rw [bu_sz_b.mp g1] at y2
      obtain ⟨d18, d1, d2⟩ := bu_lr67 (N := bu_sz (Bv s)) (x1 := nI k) (x3 := i) (a12 := a12) (a19 := bu_wr a19 Wo) g2 (bu_ad (Bv s)) 0 ss ln a18 (by rw [bu_len]; omega) (w1 a19) (fun x hx => (bu_sh_ad (bu_nd_sh ndB) hx).2) y1 hat (by rw [bu_len]; omega)
      obtain ⟨b18, b19, b20, rs, r1, r2, r3, r4, r5⟩ := ih (i + 1) m (ln ++ ss) d18 (bu_wr a19 Wo) (bu_wr a20 Wp) (by omega) hat6.2 (fun s' h' => hs s' (by simp [h'])) (fun s' h' => hB s' (by simp [h'])) htm' d1 (by rw [List.length_append]; omega)
      refine ⟨b18, b19, b20, ss ++ rs, by rw [← List.append_assoc]; exact r1, by rw [Nat.add_comm]; exact bu_tm_app y2 r2, fun x hx => ?_, by rw [List.length_append]; omega, ?_⟩
      · rcases List.mem_append.mp hx with z | z
        · exact y3 x z
        · exact r3 x z
      · intro w h ru pa ro li a1 a2 a3 a4 a10 a11 a15 post hp
        rw [← List.append_assoc] at hp
        have t := r5 (li := li) post hp
        rw [List.length_append, ysl] at t
        refine ⟨pk_in k 6 hk, ?_⟩
        rw [nI_clamp (show k < 2 ^ 31 by omega), h5]
        refine pk_le N i (fun z => absurd z (by omega)) (fun _ => ?_)
        have es : nI s - 7 = nI (s - 7) := pk_sub (a := s) (b := 7) h7
        rw [ei, nI_clamp (show k * 31 + i < 2 ^ 31 by omega), hat6.1]
        refine ⟨pk_in (k * 31 + i) 186 (by omega), nm_e (br_t (nI_le (a := 7) h7 (by omega)) ?_)⟩
        rw [es, nI_clamp (show s - 7 < 2 ^ 31 by omega), g4]
        refine ⟨pk_in (s - 7) 3 (by omega), w2 _ ?_⟩
        refine ⟨(bu_ad (Bv s)).length + 1, d2 post _ ?_⟩
        rw [bu_len]; exact t
    · rw [if_pos (by omega)] at erz
      obtain ⟨b18, b19, b20, rs, r1, r2, r3, r4, r5⟩ := ih (i + 1) (m + bu_ar s) (ln ++ [s]) (upd a18 ln.length (nI s)) a19 a20 (by omega) hat6.2 (fun s' h' => hs s' (by simp [h'])) (fun s' h' => hB s' (by simp [h'])) htm' (by have := bu_at_snoc (s := s) hat; rw [Nat.zero_add] at this; exact this) (by simp; omega)
      refine ⟨b18, b19, b20, s :: rs, by simpa using r1, ⟨m, rfl, r2⟩, fun x hx => ?_, by rw [List.length_cons]; omega, ?_⟩
      · rcases List.mem_cons.mp hx with z | z
        · omega
        · exact r3 x z
      · intro w h ru pa ro li a1 a2 a3 a4 a10 a11 a15 post hp
        have t := r5 (li := li) post (by simpa using hp)
        rw [List.length_append] at t
        refine ⟨pk_in k 6 hk, ?_⟩
        rw [nI_clamp (show k < 2 ^ 31 by omega), h5]
        refine pk_le N i (fun z => absurd z (by omega)) (fun _ => ?_)
        rw [ei, nI_clamp (show k * 31 + i < 2 ^ 31 by omega), hat6.1]
        refine ⟨pk_in (k * 31 + i) 186 (by omega), nm_e (br_f (nI_ge (a := s) (b := 7) (by omega) (by decide)) ?_)⟩
        rw [nI_clamp (show ln.length < 2 ^ 31 by omega)]
        exact ⟨pk_in ln.length 32 (by omega), nm_e (nm_r (nI_1 ln.length) (nm_r (nI_1 i) t))⟩
theorem bu_lr {P k : Nat} {R : List Nat} {Bv : Nat → bu_T} {a5 a6 a7 a8 a9 a12 a13 a14 a16 a18 a19 a20 a21 : Nat → Int32} {a17 : Nat → Int64} (hk : k < 6) (hN : R.length ≤ 31) (h5 : a5 k = nI R.length) (hat : bu_at a6 (k * 31) R) (hs : ∀ s, s ∈ R → s ≤ 9)
    (hB : ∀ s, s ∈ R → 7 ≤ s → bu_gd P a7 a8 a9 a12 a13 a14 a16 a17 (Bv s) ∧ a21 (s - 7) = nI (bu_rt (Bv s))) (htm : bu_tm R 1) (hl : bu_rz Bv R ≤ 31) :
    ∃ (b18 b19 b20 : Nat → Int32) (rs : List Nat), bu_at b18 0 rs ∧ bu_tm rs 1 ∧ (∀ s, s ∈ rs → s ≤ 6) ∧ rs.length = bu_rz Bv R ∧
      ∀ {w h ru pa ro li : Int32} {a1 a2 a3 a4 a10 a11 a15 : Nat → Int32} (post : St1 → Prop), post (w, h, ru, pa, ro, (nI rs.length), a1, a2, a3, a4, a5, a6, a7, a8, a9, a10, a11, a12, a13, a14, a15, a16, a17, b18, b19, b20, a21) → wpX_lineUpRight post (w, h, ru, pa, ro, li, a1, a2, a3, a4, a5, a6, a7, a8, a9, a10, a11, a12, a13, a14, a15, a16, a17, a18, a19, a20, a21) (nI k) := by
  obtain ⟨b18, b19, b20, rs, r1, r2, r3, r4, r5⟩ := bu_lr4 (P := P) (Bv := Bv) hk hN h5 R 0 1 [] a18 a19 a20 (by omega) hat hs hB htm trivial (by simpa using hl)
  refine ⟨b18, b19, b20, rs, r1, r2, r3, r4, ?_⟩
  intros; rename_i post hp
  exact ⟨_, r5 post hp⟩
end
section
/-! step, run -/
theorem bu_step {W K P : Nat} {ts : List (List Nat)} {A : bu_T} {li : Int32} {a1 a2 a3 a4 a5 a6 a7 a8 a9 a10 a11 a12 a13 a14 a15 a16 a18 a19 a20 a21 : Nat → Int32} {a17 : Nat → Int64} (hI : bu_I W K P ts A a1 a2 a3 a4 a5 a6 a7 a8 a9 a10 a11 a12 a13 a14 a15 a16 a17) :
    ∃ (r : Int32) (u' : St1), bu_inv u' ∧ ((bu_nx (fun x => bu_ra a10 (a17 x) K 0) (bu_ad A) 0 = -4 ∧ r = -4) ∨ ∃ j, j < 31 ∧ bu_nx (fun x => bu_ra a10 (a17 x) K 0) (bu_ad A) 0 = nI j ∧ (r = nI j ∨ r = -2)) ∧
      ∀ post : Int32 → St1 → Prop, post r u' → wpX_step post ((nI W), (nI ts.length), (nI K), (nI P), (nI (bu_rt A)), li, a1, a2, a3, a4, a5, a6, a7, a8, a9, a10, a11, a12, a13, a14, a15, a16, a17, a18, a19, a20, a21) := by
  have hI' := hI
  obtain ⟨hW, hts, hstk, hK, hP1, hP, htp, t1, t2, t3, t4, t5, t6, t7, t8⟩ := hI'
  have shA := bu_nd_sh (bu_ok_nd t1)
  obtain ⟨Wo, Wp, w1, w2⟩ := bu_lp shA t6 t7
  have ad64 : ∀ x, x ∈ bu_ad A → x < 64 := fun x hx => (bu_sh_ad shA hx).2
  have next : ∀ post : Int32 → St1 → Prop, post (bu_nx (fun x => bu_ra a10 (a17 x) K 0) (bu_ad A) 0) ((nI W), (nI ts.length), (nI K), (nI P), (nI (bu_rt A)), li, a1, a2, a3, a4, a5, a6, a7, a8, a9, a10, a11, a12, a13, a14, a15, a16, a17, a18, (bu_wr a19 Wo), (bu_wr a20 Wp), a21) → wpX_nextPlace post ((nI W), (nI ts.length), (nI K), (nI P), (nI (bu_rt A)), li, a1, a2, a3, a4, a5, a6, a7, a8, a9, a10, a11, a12, a13, a14, a15, a16, a17, a18, a19, a20, a21) := by
    intro post hp
    exact w2 _ ⟨_, bu_np11 hK t7 (bu_ad A) 0 (by rw [bu_len]; omega) (w1 a19) ad64 hp⟩
  rcases bu_nx_or (fun x => bu_ra a10 (a17 x) K 0) (bu_ad A) 0 with ⟨h1, _⟩ | ⟨j, hj, h1, h2⟩
  · refine ⟨-4, _, bu_mki (li := li) (a18 := a18) (a19 := bu_wr a19 Wo) (a20 := bu_wr a20 Wp) (a21 := a21) hI, Or.inl ⟨h1, rfl⟩, fun post hp => next _ ?_⟩
    rw [h1]
    exact br_f (by decide) hp
  · rw [Nat.zero_add] at h1
    have hj31 : j < 31 := by rw [bu_len] at hj; omega
    have hat : bu_wr a19 Wo j = nI (bu_ad A)[j] := by
      have := bu_at_get (w1 a19) hj
      rw [Nat.zero_add] at this; exact this
    have hmem : (bu_ad A)[j] ∈ bu_ad A := List.getElem_mem hj
    generalize hx : (bu_ad A)[j] = x at hat hmem h2
    have hx64 := ad64 x hmem
    obtain ⟨k, hkK, hfk, hbt⟩ : ∃ k, k < K ∧ bu_ra a10 (a17 x) K 0 = nI k ∧ bu_bt (a17 x) (a10 k) := by
      rcases bu_ra_or a10 (a17 x) K 0 with e | ⟨k, _, e2, e3, e4⟩
      · exact absurd (show bu_ra a10 (a17 x) K 0 < 0 by rw [e]; decide) h2
      · exact ⟨k, by omega, e3, e4⟩
    obtain ⟨L, R, q, ⟨r1, r2, r3, r4, r5, r6, r7, r8, r9, r10⟩, htop, hdn⟩ := htp k hkK
    rw [htop] at hbt
    obtain ⟨c, X, eA, hrX, sX⟩ := bu_find hmem
    have okX : bu_al (bu_ok P a7 a8 a9 a12 a13 a14 a16 a17) X := (bu_pg_al c X (eA ▸ t1)).1
    have szA : bu_sz A = bu_sz X + (bu_ca c).length := by rw [eA]; exact bu_pg_sz c X
    obtain ⟨b20, b21, Bv, v1, v2⟩ := bu_bind (k := k) (q := q) (L := L) (X := X) (a20 := bu_wr a20 Wp) (a21 := a21) (by omega) hP r1 r2 r3 r9 hdn ⟨sX, by omega, okX⟩ (by rw [hrX]; exact hbt)
    rw [hrX] at v2
    have vR : ∀ s, s ∈ R → 7 ≤ s → bu_gd P a7 a8 a9 a12 a13 a14 a16 a17 (Bv s) ∧ b21 (s - 7) = nI (bu_rt (Bv s)) := fun s hs h7 => v1 s ((r10 s hs).2 h7) h7
    have rzb := bu_rz_le (Bv := Bv) R (fun s hs h7 => (vR s hs h7).1.2.1)
    have e16A : a16 (bu_rt A) = nI (bu_sz A) := bu_ok_size t1 t8
    have e16x : a16 x = nI (bu_sz X) := by rw [← hrX]; exact bu_ok_size okX t8
    have rA : bu_rt A < 64 := bu_sh_rt shA
    have enum : (a16 (nI (bu_rt A)).toNatClampNeg - a16 (nI x).toNatClampNeg) + nI (bu_rz Bv R) = nI (bu_sz A - bu_sz X + bu_rz Bv R) := by
      rw [nI_clamp (show bu_rt A < 2 ^ 31 by omega), nI_clamp (show x < 2 ^ 31 by omega), e16A, e16x, pk_sub (by omega), nI_add]
    by_cases hfit : bu_sz A - bu_sz X + bu_rz Bv R ≤ 31
    · obtain ⟨l18, l19, l20, rs, g1, g2, g3, g4, g5⟩ := bu_lr (P := P) (Bv := Bv) (a12 := a12) (a13 := a13) (a14 := a14) (a16 := a16) (a17 := a17) (a18 := a18) (a19 := bu_wr a19 Wo) (a20 := b20) (show k < 6 by omega) r5 r4 r6 (fun s hs => (r10 s hs).1) vR r8 (by omega)
      obtain ⟨B, d11, d12, d13, d14, d15, d16, d20, d17, i1, i2, i3, i4⟩ := bu_grow (P := P) (a7 := a7) (a8 := a8) (a9 := a9) (a11 := a11) (a12 := a12) (a13 := a13) (a14 := a14) (a15 := a15) (a16 := a16) (a17 := a17) (a18 := l18) (a20 := l20) (U := bu_ad A) (ln := rs) hP1 hP g3 g1 (by omega) (by rw [bu_len]; omega) g2 t4 t5 t8 (fun z => absurd (bu_sh_ad shA z).1 (by omega))
      obtain ⟨j1, j2, j3, j4, j5⟩ := i1
      obtain ⟨k1, k2, k3, k4⟩ := j1 B (by simp)
      have efl : bu_fl [B] = bu_ad B := by simp [bu_fl]
      rw [efl] at j2 j3
      have okA : bu_al (bu_ok P a7 a8 a9 d12 d13 d14 d16 d17) A := bu_ok_frame t1 (fun u hu => by
        obtain ⟨z1, z2, z3, z4, z5, z6⟩ := i3 u hu
        exact ⟨z1, z2, z3, z5, z6⟩)
      have abA : bu_al (bu_ab d15) A := bu_ab_eq t2 (fun u hu => (i3 u hu).2.2.2.1)
      have rtA : d15 (bu_rt A) = 0 := by rw [(i3 _ (bu_rt_mem t6)).2.2.2.1]; exact t3
      rw [List.nodup_append] at j2
      have cl : c.length ≤ 31 := by have := bu_ca_len c; omega
      have pX := bu_pg_perm c X
      have pB := bu_pg_perm c B
      rw [← eA] at pX
      have nX := pX.nodup t4
      rw [List.nodup_append] at nX
      obtain ⟨b13, b14, b15, b16, b17, m1, m2, m3, m4, m5, m6, m7⟩ := bu_repl (P := P) (c := c) (X := X) (B := B) hP1 hP (eA ▸ okA) (eA ▸ abA) (eA ▸ rtA) (eA ▸ t4) sX cl k2 k3 k1 j2.1 (fun u hu z => j2.2.2 u hu u (eA.symm ▸ z) rfl) j4
      rw [← eA, hrX] at m7
      obtain ⟨e11, e19, e20, n1, n2⟩ := bu_rel (a11 := d11) (a19 := l19) (a20 := d20) (U := bu_ad B ++ bu_ad A) (V := bu_ad (bu_pg c B)) m5 sX (by omega) j3 (fun u => by
        rw [pB.mem_iff, List.mem_append, List.mem_append, pX.mem_iff, List.mem_append]
        constructor
        · rintro (z | z)
          · exact ⟨Or.inl z, fun y => j2.2.2 u z u (pX.mem_iff.mpr (by simp [y])) rfl⟩
          · exact ⟨Or.inr (Or.inr z), fun y => nX.2.2 u y u z rfl⟩
        · rintro ⟨z | z | z, y⟩
          · exact Or.inl z
          · exact absurd z y
          · exact Or.inr z)
      rw [hrX] at n2
      refine ⟨nI j, _, bu_mki (W := W) (K := K) (P := P) (ts := ts) (A := bu_pg c B) (li := nI rs.length) (a1 := a1) (a2 := a2) (a18 := l18) (a19 := e19) (a20 := e20) (a21 := b21) ⟨hW, hts, hstk, hK, hP1, hP, htp, m1, m2, m3, m4, n1, by rw [bu_pg_sz]; omega, by rw [bu_pg_sz]; omega, m6⟩, Or.inr ⟨j, hj31, h1, Or.inl rfl⟩, fun post hp => next _ ?_⟩
      rw [h1]
      refine br_t (nI_pos' (by omega)) ⟨pk_in j 32 (by omega), nm_r (e' := nI x) (by rw [nI_clamp (show j < 2 ^ 31 by omega)]; exact hat) (bu_rat hK hx64 ?_)⟩
      rw [hfk]
      refine v2 _ (bu_sr (P := P) (Bv := Bv) (show k < 6 by omega) r5 r4 t8 r6 (fun s hs => (r10 s hs).1) vR ⟨pk_in (bu_rt A) 64 rA, pk_in x 64 hx64, ?_⟩)
      rw [enum]
      exact br_t (nI_le (b := 31) hfit (by decide)) (g5 _ (i4 _ (m7 _ (n2 _ hp))))
    · refine ⟨-2, _, bu_mki (W := W) (K := K) (P := P) (ts := ts) (A := A) (li := li) (a1 := a1) (a2 := a2) (a18 := a18) (a19 := bu_wr a19 Wo) (a20 := b20) (a21 := b21) hI, Or.inr ⟨j, hj31, h1, Or.inr rfl⟩, fun post hp => next _ ?_⟩
      rw [h1]
      refine br_t (nI_pos' (by omega)) ⟨pk_in j 32 (by omega), nm_r (e' := nI x) (by rw [nI_clamp (show j < 2 ^ 31 by omega)]; exact hat) (bu_rat hK hx64 ?_)⟩
      rw [hfk]
      refine v2 _ (bu_sr (P := P) (Bv := Bv) (show k < 6 by omega) r5 r4 t8 r6 (fun s hs => (r10 s hs).1) vR ⟨pk_in (bu_rt A) 64 rA, pk_in x 64 hx64, ?_⟩)
      rw [enum]
      exact br_f (nI_ge (a := 31) (by omega) (by omega)) hp
theorem bu_step_ev {u : St1} (hu : bu_inv u) : bu_ev (fun post => wpX_step post u) := by
  obtain ⟨W, K, P, ts, A, li, a1, a2, a3, a4, a5, a6, a7, a8, a9, a10, a11, a12, a13, a14, a15, a16, a18, a19, a20, a21, a17, rfl, hI⟩ := hu
  obtain ⟨r, u', h1, _, h3⟩ := bu_step (li := li) (a18 := a18) (a19 := a19) (a20 := a20) (a21 := a21) hI
  exact ⟨r, u', h1, h3⟩
theorem bu_run7 {n : Nat} (hn : n ≤ 7) (m : Nat) : ∀ (i : Nat) (u : St1) (x2 z : Int32), bu_inv u → i + m = n →
    ∃ (r : Int32) (u' : St1), bu_inv u' ∧ ∀ post : Int32 → St1 → Prop, post r u' → wX_run_7 post (nI n) (m + 1) x2 z (nI i) u.1 u.2.1 u.2.2.1 u.2.2.2.1 u.2.2.2.2.1 u.2.2.2.2.2.1 u.2.2.2.2.2.2.1 u.2.2.2.2.2.2.2.1 u.2.2.2.2.2.2.2.2.1 u.2.2.2.2.2.2.2.2.2.1 u.2.2.2.2.2.2.2.2.2.2.1 u.2.2.2.2.2.2.2.2.2.2.2.1 u.2.2.2.2.2.2.2.2.2.2.2.2.1 u.2.2.2.2.2.2.2.2.2.2.2.2.2.1 u.2.2.2.2.2.2.2.2.2.2.2.2.2.2.1 u.2.2.2.2.2.2.2.2.2.2.2.2.2.2.2.1 u.2.2.2.2.2.2.2.2.2.2.2.2.2.2.2.2.1 u.2.2.2.2.2.2.2.2.2.2.2.2.2.2.2.2.2.1 u.2.2.2.2.2.2.2.2.2.2.2.2.2.2.2.2.2.2.1 u.2.2.2.2.2.2.2.2.2.2.2.2.2.2.2.2.2.2.2.1 u.2.2.2.2.2.2.2.2.2.2.2.2.2.2.2.2.2.2.2.2.1 u.2.2.2.2.2.2.2.2.2.2.2.2.2.2.2.2.2.2.2.2.2.1 u.2.2.2.2.2.2.2.2.2.2.2.2.2.2.2.2.2.2.2.2.2.2.1 u.2.2.2.2.2.2.2.2.2.2.2.2.2.2.2.2.2.2.2.2.2.2.2.1 u.2.2.2.2.2.2.2.2.2.2.2.2.2.2.2.2.2.2.2.2.2.2.2.2.1 u.2.2.2.2.2.2.2.2.2.2.2.2.2.2.2.2.2.2.2.2.2.2.2.2.2.1 u.2.2.2.2.2.2.2.2.2.2.2.2.2.2.2.2.2.2.2.2.2.2.2.2.2.2 := by
  induction m with
  | zero =>
    intro i u x2 z hu hi
    exact ⟨x2, u, hu, fun post hp => pk_le n i (fun _ => hp) (fun z => absurd z (by omega))⟩
  | succ m ih =>
    intro i u x2 z hu hi
    by_cases hz : z = 0
    · exact ⟨x2, u, hu, fun post hp => pk_le n i (fun _ => hp) (fun _ => pk_le 40 i (fun _ => hp) (fun _ => br_t hz hp))⟩
    · obtain ⟨r, u', h1, h2⟩ := bu_step_ev hu
      by_cases hr : r < 0
      · obtain ⟨r2, u2, g1, g2⟩ := ih (i + 1) u' x2 0 h1 (by omega)
        refine ⟨r2, u2, g1, fun post hp => pk_le n i (fun z => absurd z (by omega)) (fun _ => pk_le 40 i (fun z => absurd z (by omega)) (fun _ => br_f hz (h2 _ ?_)))⟩
        have t := g2 post hp
        obtain ⟨w, h, ru, pa, ro, li, a1, a2, a3, a4, a5, a6, a7, a8, a9, a10, a11, a12, a13, a14, a15, a16, a17, a18, a19, a20, a21⟩ := u'
        exact br_t hr (br_t rfl (nm_r (nI_1 i) t))
      · obtain ⟨r2, u2, g1, g2⟩ := ih (i + 1) u' (x2 + 1) 1 h1 (by omega)
        refine ⟨r2, u2, g1, fun post hp => pk_le n i (fun z => absurd z (by omega)) (fun _ => pk_le 40 i (fun z => absurd z (by omega)) (fun _ => br_f hz (h2 _ ?_)))⟩
        have t := g2 post hp
        obtain ⟨w, h, ru, pa, ro, li, a1, a2, a3, a4, a5, a6, a7, a8, a9, a10, a11, a12, a13, a14, a15, a16, a17, a18, a19, a20, a21⟩ := u'
        exact br_f hr (br_f (by decide) (nm_e (nm_r (nI_1 i) t)))
theorem bu_run {u : St1} {n : Nat} (hu : bu_inv u) (hn : n ≤ 7) : bu_ev (fun post => wpX_run post u (nI n)) := by
  obtain ⟨r, u', h1, h2⟩ := bu_run7 hn n 0 u 0 1 hu (by omega)
  exact ⟨r, u', h1, fun post hp => ⟨_, h2 post hp⟩⟩
/-- run(1) is one step -/
theorem bu_run1 {u u' : St1} {r : Int32} (h : ∀ post : Int32 → St1 → Prop, post r u' → wpX_step post u) : ∀ post : Int32 → St1 → Prop, post (if r < 0 then 0 else 1) u' → wpX_run post u 1 := by
  intro post hp
  refine ⟨2, pk_le 1 0 (fun z => absurd z (by omega)) (fun _ => pk_le 40 0 (fun z => absurd z (by omega)) (fun _ => br_f (by decide) (h _ ?_)))⟩
  obtain ⟨w, h, ru, pa, ro, li, a1, a2, a3, a4, a5, a6, a7, a8, a9, a10, a11, a12, a13, a14, a15, a16, a17, a18, a19, a20, a21⟩ := u'
  by_cases hr : r < 0
  · rw [if_pos hr] at hp
    exact br_t hr (br_t rfl (nm_e (br_t (by decide) hp)))
  · rw [if_neg hr] at hp
    exact br_f hr (br_f (by decide) (nm_e (nm_e (br_t (by decide) hp))))
end
section
/-! turn, the constructor -/
theorem bu_27 {Q : St1 → Prop} {u : St1} (h : Q u) : match u with | (w, h, ru, pa, ro, li, a1, a2, a3, a4, a5, a6, a7, a8, a9, a10, a11, a12, a13, a14, a15, a16, a17, a18, a19, a20, a21) => Q (w, h, ru, pa, ro, li, a1, a2, a3, a4, a5, a6, a7, a8, a9, a10, a11, a12, a13, a14, a15, a16, a17, a18, a19, a20, a21) := by
  obtain ⟨w, h', ru, pa, ro, li, a1, a2, a3, a4, a5, a6, a7, a8, a9, a10, a11, a12, a13, a14, a15, a16, a17, a18, a19, a20, a21⟩ := u
  exact h
theorem bu_turn {u : St1} (hu : bu_inv u) (p1 p2 : Int32) : bu_ev (fun post => wpL_turn post u p1 p2) := by
  obtain ⟨o, ho, eo⟩ := pk_andE p1 (m := 31) 5 (by decide)
  obtain ⟨s, hs, es⟩ := pk_andE p2 (m := 15) 4 (by decide)
  obtain ⟨n, hn, en⟩ := pk_andE p2 (m := 7) 3 (by decide)
  have hu' := hu
  obtain ⟨W, K, P, ts, A, li, a1, a2, a3, a4, a5, a6, a7, a8, a9, a10, a11, a12, a13, a14, a15, a16, a18, a19, a20, a21, a17, rfl, hI⟩ := hu
  by_cases c18 : 18 ≤ o
  · have k18 : (18 : Int32) ≤ nI o := nI_le (a := 18) c18 (by omega)
    by_cases c21 : 21 ≤ o
    · have k21 : (21 : Int32) ≤ nI o := nI_le (a := 21) c21 (by omega)
      by_cases e21 : o = 21
      · obtain ⟨r, u', h1, h2⟩ := bu_unrule hu'
        exact ⟨r, u', h1, fun post hp => nm_r eo (nm_r es (br_t k18 (br_t k21 (br_t (by rw [e21]; rfl) (h2 _ (bu_27 (Q := post r) hp))))))⟩
      · have n21 : ¬ nI o = 21 := fun z => e21 ((nI_eq (b := 21) (by omega) (by decide)).mp z)
        by_cases c26 : 26 ≤ o
        · have k26 : (26 : Int32) ≤ nI o := nI_le (a := 26) c26 (by omega)
          by_cases c29 : 29 ≤ o
          · have k29 : (29 : Int32) ≤ nI o := nI_le (a := 29) c29 (by omega)
            by_cases e29 : o = 29
            · obtain ⟨r, u', h1, h2⟩ := bu_run (n := n) hu' (by omega)
              refine ⟨r, u', h1, fun post hp => nm_r eo (nm_r es (br_t k18 (br_t k21 (br_f n21 (br_t k26 (br_t k29 (br_t (by rw [e29]; rfl) ?_)))))))⟩
              rw [en]
              exact h2 _ (bu_27 (Q := post r) hp)
            · have n29 : ¬ nI o = 29 := fun z => e29 ((nI_eq (b := 29) (by omega) (by decide)).mp z)
              by_cases e30 : nI o = 30 ∧ (p2 &&& 3) = 0
              · obtain ⟨u', h1, h2⟩ := bu_discard hu'
                exact ⟨0, u', h1, fun post hp => nm_r eo (nm_r es (br_t k18 (br_t k21 (br_f n21 (br_t k26 (br_t k29 (br_f n29 (br_t e30.1 (br_t e30.2 (h2 _ (bu_27 (Q := post 0) hp)))))))))))⟩
              · refine ⟨0, _, hu', fun post hp => nm_r eo (nm_r es (br_t k18 (br_t k21 (br_f n21 (br_t k26 (br_t k29 (br_f n29 (br_c (fun z => br_f (fun y => e30 ⟨z, y⟩) hp) (fun _ => hp)))))))))⟩
          · have k29 : ¬ (29 : Int32) ≤ nI o := nI_ge (b := 29) (by omega) (by decide)
            obtain ⟨r, u', h1, h2⟩ := bu_step_ev hu'
            exact ⟨r, u', h1, fun post hp => nm_r eo (nm_r es (br_t k18 (br_t k21 (br_f n21 (br_t k26 (br_f k29 (h2 _ (bu_27 (Q := post r) hp))))))))⟩
        · have k26 : ¬ (26 : Int32) ≤ nI o := nI_ge (b := 26) (by omega) (by decide)
          obtain ⟨r, u', h1, h2⟩ := bu_subject hu'
          exact ⟨r, u', h1, fun post hp => nm_r eo (nm_r es (br_t k18 (br_t k21 (br_f n21 (br_f k26 (h2 _ (bu_27 (Q := post r) hp)))))))⟩
    · have k21 : ¬ (21 : Int32) ≤ nI o := nI_ge (b := 21) (by omega) (by decide)
      obtain ⟨r, u', h1, h2⟩ := bu_rule hu'
      exact ⟨r, u', h1, fun post hp => nm_r eo (nm_r es (br_t k18 (br_f k21 (h2 _ (bu_27 (Q := post r) hp)))))⟩
  · have k18 : ¬ (18 : Int32) ≤ nI o := nI_ge (b := 18) (by omega) (by decide)
    by_cases c10 : 10 ≤ s
    · have k10 : (10 : Int32) ≤ nI s := nI_le (a := 10) c10 (by omega)
      by_cases c13 : 13 ≤ s
      · have k13 : (13 : Int32) ≤ nI s := nI_le (a := 13) c13 (by omega)
        obtain ⟨r, u', h1, h2⟩ := bu_build (p := s - 8) hu' (by omega)
        refine ⟨r, u', h1, fun post hp => nm_r eo (nm_r es (br_f k18 (br_t k10 (br_t k13 ?_))))⟩
        rw [show nI s - 8 = nI (s - 8) from pk_sub (a := s) (b := 8) (by omega)]
        exact h2 _ (bu_27 (Q := post r) hp)
      · have k13 : ¬ (13 : Int32) ≤ nI s := nI_ge (b := 13) (by omega) (by decide)
        obtain ⟨r, u', h1, h2⟩ := bu_build (p := s - 6) hu' (by omega)
        refine ⟨r, u', h1, fun post hp => nm_r eo (nm_r es (br_f k18 (br_t k10 (br_f k13 ?_))))⟩
        rw [show nI s - 6 = nI (s - 6) from pk_sub (a := s) (b := 6) (by omega)]
        exact h2 _ (bu_27 (Q := post r) hp)
    · have k10 : ¬ (10 : Int32) ≤ nI s := nI_ge (b := 10) (by omega) (by decide)
      obtain ⟨r, u', h1, h2⟩ := bu_build (p := s) hu' (by omega)
      exact ⟨r, u', h1, fun post hp => nm_r eo (nm_r es (br_f k18 (br_f k10 (h2 _ (bu_27 (Q := post r) hp)))))⟩
theorem bu_init : ∃ u' : St1, bu_inv u' ∧ ∀ post : St1 → Prop, post u' → wpX_init post 21 1006 (0, 0, 0, 0, 0, 0) := by
  obtain ⟨B, d11, d12, d13, d14, d15, d16, d20, d17, i1, i2, i3, i4⟩ := bu_grow (P := 1) (a7 := fun _ => 0) (a8 := fun _ => 0) (a9 := fun _ => 0) (a11 := fun _ => 0) (a12 := fun _ => 0) (a13 := fun _ => 0) (a14 := fun _ => 0) (a15 := fun _ => 0) (a16 := fun _ => 0) (a17 := fun _ => 0) (a18 := upd (fun _ => 0) 0 0) (a20 := fun _ => 0) (U := []) (ln := [0]) (by omega) (by omega) (fun s hs => by simp at hs; omega) ⟨rfl, trivial⟩ (by simp) (by simp) ⟨0, rfl, rfl⟩ (by simp) (fun j _ _ => by simp) rfl (by simp)
  obtain ⟨j1, j2, j3, j4, j5⟩ := i1
  obtain ⟨k1, k2, k3, k4⟩ := j1 B (by simp)
  have efl : bu_fl [B] ++ [] = bu_ad B := by simp [bu_fl]
  rw [efl] at j2 j3
  have hz : bu_sz B = 1 := i2
  refine ⟨_, bu_mki (W := 0) (K := 0) (P := 1) (ts := []) (A := B) (li := nI 1) (a1 := fun _ => 0) (a2 := fun _ => 0) (a3 := fun _ => 0) (a4 := fun _ => 0) (a5 := fun _ => 0) (a6 := fun _ => 0) (a7 := fun _ => 0) (a8 := fun _ => 0) (a9 := fun _ => 0) (a10 := fun _ => 0) (a18 := upd (fun _ => 0) 0 0) (a19 := fun _ => 0) (a20 := d20) (a21 := fun _ => 0) ⟨by omega, by simp, trivial, by omega, by omega, by omega, fun k hk => absurd hk (by omega), k2, k3, k4, j2, j3, k1, by omega, j4⟩, fun post hp => ?_⟩
  exact ⟨by omega, by omega, by omega, by omega, by omega, by omega, by omega, by omega, by omega, by omega, by omega, by omega, by omega, by omega, by omega, by omega, by omega, by omega, by omega, by omega, by omega, by omega, by omega, by omega, by omega, by omega, by omega, by omega, by omega, by omega, by omega, by omega, by omega, by omega, by omega, by omega, by omega, by omega, by omega, by omega, by omega, by omega, nm_e (i4 _ hp)⟩
end
section
/-! what the law looks at; only order and pile change, and always to the same -/
def bu_fi (f : Nat → Int32) (l : List Nat) (i : Nat) : Int32 := match l[i]? with
  | some x => f x
  | none => -4
def bu_R (Wo Wp : List (Nat × Int32)) (O Q o p : Nat → Int32) : Prop := bu_wr o Wo = O ∧ bu_wr p Wp = Q
theorem bu_R_lp {Wo Wp : List (Nat × Int32)} {O Q o p : Nat → Int32} (h : bu_R Wo Wp O Q o p) : bu_R Wo Wp O Q (bu_wr o Wo) (bu_wr p Wp) := ⟨by rw [bu_wr_idem]; exact h.1, by rw [bu_wr_idem]; exact h.2⟩
/-- what is known of a tree whose places are listed by Wo, Wp -/
def bu_LP (A : bu_T) (Wo Wp : List (Nat × Int32)) (a13 a14 : Nat → Int32) : Prop :=
  (∀ o, bu_at (bu_wr o Wo) 0 (bu_ad A)) ∧ ∀ {w h ru pa ro li : Int32} {a1 a2 a3 a4 a5 a6 a7 a8 a9 a10 a11 a12 a15 a16 a18 a19 a20 a21 : Nat → Int32} {a17 : Nat → Int64} (post : Int32 → St1 → Prop), post (nI (bu_sz A)) (w, h, ru, pa, ro, li, a1, a2, a3, a4, a5, a6, a7, a8, a9, a10, a11, a12, a13, a14, a15, a16, a17, a18, (bu_wr a19 Wo), (bu_wr a20 Wp), a21) → wpX_listPlaces post (w, h, ru, pa, ro, li, a1, a2, a3, a4, a5, a6, a7, a8, a9, a10, a11, a12, a13, a14, a15, a16, a17, a18, a19, a20, a21) (nI (bu_rt A))
theorem bu_node {post : Int32 → St1 → Prop} {i : Nat} {A : bu_T} {Wo Wp : List (Nat × Int32)} {O Q : Nat → Int32} {w h ru pa li : Int32} {a1 a2 a3 a4 a5 a6 a7 a8 a9 a10 a11 a12 a13 a14 a15 a16 a18 a19 a20 a21 : Nat → Int32} {a17 : Nat → Int64} (hLP : bu_LP A Wo Wp a13 a14) (sh : bu_al (bu_sh a13 a14) A) (h16 : a16 (bu_rt A) = nI (bu_sz A)) (h31 : bu_sz A ≤ 31) (hi : i < 32) (hR : bu_R Wo Wp O Q a19 a20)
    (hh : ∀ x o p, (bu_ad A)[i]? = some x → x ∈ bu_ad A → bu_R Wo Wp O Q o p → post (nI x) (w, h, ru, pa, (nI (bu_rt A)), li, a1, a2, a3, a4, a5, a6, a7, a8, a9, a10, a11, a12, a13, a14, a15, a16, a17, a18, o, p, a21)) (hz : (bu_ad A)[i]? = none → post 0 (w, h, ru, pa, (nI (bu_rt A)), li, a1, a2, a3, a4, a5, a6, a7, a8, a9, a10, a11, a12, a13, a14, a15, a16, a17, a18, a19, a20, a21)) : wpX_nodeAt post (w, h, ru, pa, (nI (bu_rt A)), li, a1, a2, a3, a4, a5, a6, a7, a8, a9, a10, a11, a12, a13, a14, a15, a16, a17, a18, a19, a20, a21) (nI i) := by
  have rA := bu_sh_rt sh
  refine br_f (nI_pos (by omega)) ⟨pk_in (bu_rt A) 64 rA, ?_⟩
  rw [nI_clamp (show bu_rt A < 2 ^ 31 by omega), h16]
  refine pk_lt i (bu_sz A) (fun z => hLP.2 _ ⟨pk_in i 32 hi, ?_⟩) (fun z => hz (List.getElem?_eq_none (by rw [bu_len]; exact z)))
  have hil : i < (bu_ad A).length := by rw [bu_len]; exact z
  have e := bu_at_get (hLP.1 a19) hil
  rw [Nat.zero_add] at e
  rw [nI_clamp (show i < 2 ^ 31 by omega), e]
  exact hh _ _ _ (List.getElem?_eq_getElem hil) (List.getElem_mem hil) (bu_R_lp hR)
theorem bu_symbol {post : Int32 → St1 → Prop} {i : Nat} {A : bu_T} {Wo Wp : List (Nat × Int32)} {O Q : Nat → Int32} {w h ru pa li : Int32} {a1 a2 a3 a4 a5 a6 a7 a8 a9 a10 a11 a12 a13 a14 a15 a16 a18 a19 a20 a21 : Nat → Int32} {a17 : Nat → Int64} (hLP : bu_LP A Wo Wp a13 a14) (sh : bu_al (bu_sh a13 a14) A) (h16 : a16 (bu_rt A) = nI (bu_sz A)) (h31 : bu_sz A ≤ 31) (hi : i < 32) (hR : bu_R Wo Wp O Q a19 a20)
    (hh : ∀ o p, bu_R Wo Wp O Q o p → post (bu_fi a12 (bu_ad A) i) (w, h, ru, pa, (nI (bu_rt A)), li, a1, a2, a3, a4, a5, a6, a7, a8, a9, a10, a11, a12, a13, a14, a15, a16, a17, a18, o, p, a21)) : wpX_symbol post (w, h, ru, pa, (nI (bu_rt A)), li, a1, a2, a3, a4, a5, a6, a7, a8, a9, a10, a11, a12, a13, a14, a15, a16, a17, a18, a19, a20, a21) (nI i) := by
  unfold wpX_symbol
  refine bu_node hLP sh h16 h31 hi hR (fun x o p ex hx hr => ?_) (fun ex => ?_)
  · obtain ⟨x0, x1⟩ := bu_sh_ad sh hx
    have t := hh o p hr
    rw [bu_fi, ex] at t
    refine br_f (nI_ne0 x0 (by omega)) ⟨pk_in x 64 x1, ?_⟩
    rw [nI_clamp (show x < 2 ^ 31 by omega)]
    exact t
  · have t := hh _ _ hR
    rw [bu_fi, ex] at t
    exact br_t rfl t
theorem bu_sizeAt {post : Int32 → St1 → Prop} {i : Nat} {A : bu_T} {Wo Wp : List (Nat × Int32)} {O Q : Nat → Int32} {w h ru pa li : Int32} {a1 a2 a3 a4 a5 a6 a7 a8 a9 a10 a11 a12 a13 a14 a15 a16 a18 a19 a20 a21 : Nat → Int32} {a17 : Nat → Int64} (hLP : bu_LP A Wo Wp a13 a14) (sh : bu_al (bu_sh a13 a14) A) (h16 : a16 (bu_rt A) = nI (bu_sz A)) (h31 : bu_sz A ≤ 31) (hi : i < 32) (hR : bu_R Wo Wp O Q a19 a20)
    (hh : ∀ o p, bu_R Wo Wp O Q o p → post (bu_fi a16 (bu_ad A) i) (w, h, ru, pa, (nI (bu_rt A)), li, a1, a2, a3, a4, a5, a6, a7, a8, a9, a10, a11, a12, a13, a14, a15, a16, a17, a18, o, p, a21)) : wpX_sizeAt post (w, h, ru, pa, (nI (bu_rt A)), li, a1, a2, a3, a4, a5, a6, a7, a8, a9, a10, a11, a12, a13, a14, a15, a16, a17, a18, a19, a20, a21) (nI i) := by
  unfold wpX_sizeAt
  refine bu_node hLP sh h16 h31 hi hR (fun x o p ex hx hr => ?_) (fun ex => ?_)
  · obtain ⟨x0, x1⟩ := bu_sh_ad sh hx
    have t := hh o p hr
    rw [bu_fi, ex] at t
    refine br_f (nI_ne0 x0 (by omega)) ⟨pk_in x 64 x1, ?_⟩
    rw [nI_clamp (show x < 2 ^ 31 by omega)]
    exact t
  · have t := hh _ _ hR
    rw [bu_fi, ex] at t
    exact br_t rfl t
theorem bu_fits {post : Int32 → St1 → Prop} {i K : Nat} {A : bu_T} {Wo Wp : List (Nat × Int32)} {O Q : Nat → Int32} {w h pa li : Int32} {a1 a2 a3 a4 a5 a6 a7 a8 a9 a10 a11 a12 a13 a14 a15 a16 a18 a19 a20 a21 : Nat → Int32} {a17 : Nat → Int64} (hK : K ≤ 6) (hLP : bu_LP A Wo Wp a13 a14) (sh : bu_al (bu_sh a13 a14) A) (h16 : a16 (bu_rt A) = nI (bu_sz A)) (h31 : bu_sz A ≤ 31) (hi : i < 32) (hR : bu_R Wo Wp O Q a19 a20)
    (hh : ∀ o p, bu_R Wo Wp O Q o p → post (bu_fi (fun x => bu_ra a10 (a17 x) K 0) (bu_ad A) i) (w, h, (nI K), pa, (nI (bu_rt A)), li, a1, a2, a3, a4, a5, a6, a7, a8, a9, a10, a11, a12, a13, a14, a15, a16, a17, a18, o, p, a21)) : wpX_fits post (w, h, (nI K), pa, (nI (bu_rt A)), li, a1, a2, a3, a4, a5, a6, a7, a8, a9, a10, a11, a12, a13, a14, a15, a16, a17, a18, a19, a20, a21) (nI i) := by
  unfold wpX_fits
  refine bu_node hLP sh h16 h31 hi hR (fun x o p ex hx hr => ?_) (fun ex => ?_)
  · obtain ⟨x0, x1⟩ := bu_sh_ad sh hx
    have t := hh o p hr
    rw [bu_fi, ex] at t
    exact br_f (nI_ne0 x0 (by omega)) (bu_rat hK x1 t)
  · have t := hh _ _ hR
    rw [bu_fi, ex] at t
    exact br_t rfl t
def bu_rc (f : Nat → Int32) : List Nat → Nat → Nat
  | [], c => c
  | x :: l, c => if f x < 0 then bu_rc f l c else bu_rc f l (c + 1)
theorem bu_rc_le (f : Nat → Int32) (l : List Nat) : ∀ c, c ≤ bu_rc f l c ∧ bu_rc f l c ≤ c + l.length := by
  induction l with
  | nil => intro c; simp [bu_rc]
  | cons x l ih =>
    intro c
    rw [bu_rc]
    split
    · have := ih c; simp only [List.length_cons]; omega
    · have := ih (c + 1); simp only [List.length_cons]; omega
theorem bu_rc_nx (f : Nat → Int32) (l : List Nat) : ∀ c i, i + l.length < 2 ^ 31 → (bu_rc f l c = c ↔ bu_nx f l i = -4) := by
  induction l with
  | nil => intro c i _; simp [bu_rc, bu_nx]
  | cons x l ih =>
    intro c i hi
    simp only [List.length_cons] at hi
    rw [bu_rc, bu_nx]
    split
    · exact ih c (i + 1) (by omega)
    · have := (bu_rc_le f l (c + 1)).1
      constructor
      · intro e; omega
      · intro e
        exact absurd (show nI i < 0 by rw [e]; decide) (nI_pos (by omega))
theorem bu_rx13 {post : Int32 → St1 → Prop} {K N : Nat} {w h pa ro li : Int32} {a1 a2 a3 a4 a5 a6 a7 a8 a9 a10 a11 a12 a13 a14 a15 a16 a18 a19 a20 a21 : Nat → Int32} {a17 : Nat → Int64} (hK : K ≤ 6) (hN : N ≤ 31) (l : List Nat) : ∀ (i c : Nat), i + l.length = N → bu_at a19 i l → (∀ x, x ∈ l → x < 64) →
    post (nI (bu_rc (fun x => bu_ra a10 (a17 x) K 0) l c)) (w, h, (nI K), pa, ro, li, a1, a2, a3, a4, a5, a6, a7, a8, a9, a10, a11, a12, a13, a14, a15, a16, a17, a18, a19, a20, a21) → wX_redexes_13 post (nI N) w h (nI K) pa ro li a1 a2 a3 a4 a5 a6 a7 a8 a9 a10 a11 a12 a13 a14 a15 a16 a17 a18 a19 a20 a21 (l.length + 1) (nI c) (nI i) := by
  induction l with
  | nil =>
    intro i c hi _ _ hp
    simp only [List.length_nil, Nat.add_zero] at hi
    exact pk_le N i (fun _ => hp) (fun z => absurd z (by omega))
  | cons x l ih =>
    intro i c hi hat hx hp
    simp only [List.length_cons] at hi
    refine pk_le N i (fun z => absurd z (by omega)) (fun _ => ⟨pk_in i 32 (by omega), ?_⟩)
    rw [nI_clamp (show i < 2 ^ 31 by omega), hat.1]
    refine bu_rat hK (hx x (by simp)) (br_c (fun e => nm_r (nI_1 i) (ih (i + 1) c (by omega) hat.2 (fun y hy => hx y (by simp [hy])) ?_)) (fun e => nm_r (nI_1 c) (nm_r (nI_1 i) (ih (i + 1) (c + 1) (by omega) hat.2 (fun y hy => hx y (by simp [hy])) ?_))))
    · rw [bu_rc, if_pos e] at hp; exact hp
    · rw [bu_rc, if_neg e] at hp; exact hp
theorem bu_redexes {post : Int32 → St1 → Prop} {K : Nat} {A : bu_T} {Wo Wp : List (Nat × Int32)} {O Q : Nat → Int32} {w h pa li : Int32} {a1 a2 a3 a4 a5 a6 a7 a8 a9 a10 a11 a12 a13 a14 a15 a16 a18 a19 a20 a21 : Nat → Int32} {a17 : Nat → Int64} (hK : K ≤ 6) (hLP : bu_LP A Wo Wp a13 a14) (sh : bu_al (bu_sh a13 a14) A) (h31 : bu_sz A ≤ 31) (hR : bu_R Wo Wp O Q a19 a20)
    (hh : post (nI (bu_rc (fun x => bu_ra a10 (a17 x) K 0) (bu_ad A) 0)) (w, h, (nI K), pa, (nI (bu_rt A)), li, a1, a2, a3, a4, a5, a6, a7, a8, a9, a10, a11, a12, a13, a14, a15, a16, a17, a18, O, Q, a21)) : wpX_redexes post (w, h, (nI K), pa, (nI (bu_rt A)), li, a1, a2, a3, a4, a5, a6, a7, a8, a9, a10, a11, a12, a13, a14, a15, a16, a17, a18, a19, a20, a21) := by
  obtain ⟨e1, e2⟩ := hR
  subst e1 e2
  exact hLP.2 _ ⟨_, bu_rx13 hK h31 (bu_ad A) 0 0 (by rw [bu_len]; omega) (hLP.1 a19) (fun x hx => (bu_sh_ad sh hx).2) hh⟩
def bu_dg (a12 : Nat → Int32) : List Nat → Nat → Int32 → Int32
  | [], _, c => c
  | x :: l, i, c => bu_dg a12 l (i + 1) (c + ((nI i + 1) * (a12 x + 1)))
theorem bu_dg13 {post : Int32 → St1 → Prop} {N : Nat} {w h ru pa ro li : Int32} {a1 a2 a3 a4 a5 a6 a7 a8 a9 a10 a11 a12 a13 a14 a15 a16 a18 a19 a20 a21 : Nat → Int32} {a17 : Nat → Int64} (hN : N ≤ 31) (l : List Nat) : ∀ (i : Nat) (c : Int32), i + l.length = N → bu_at a19 i l → (∀ x, x ∈ l → x < 64) →
    post (bu_dg a12 l i c) (w, h, ru, pa, ro, li, a1, a2, a3, a4, a5, a6, a7, a8, a9, a10, a11, a12, a13, a14, a15, a16, a17, a18, a19, a20, a21) → wX_digest_13 post (nI N) w h ru pa ro li a1 a2 a3 a4 a5 a6 a7 a8 a9 a10 a11 a12 a13 a14 a15 a16 a17 a18 a19 a20 a21 (l.length + 1) c (nI i) := by
  induction l with
  | nil =>
    intro i c hi _ _ hp
    simp only [List.length_nil, Nat.add_zero] at hi
    exact pk_le N i (fun _ => hp) (fun z => absurd z (by omega))
  | cons x l ih =>
    intro i c hi hat hx hp
    simp only [List.length_cons] at hi
    have x64 := hx x (by simp)
    refine pk_le N i (fun z => absurd z (by omega)) (fun _ => ⟨pk_in i 32 (by omega), ?_⟩)
    rw [nI_clamp (show i < 2 ^ 31 by omega), hat.1, nI_clamp (show x < 2 ^ 31 by omega)]
    exact ⟨pk_in x 64 x64, nm_e (nm_r (nI_1 i) (ih (i + 1) _ (by omega) hat.2 (fun y hy => hx y (by simp [hy])) hp))⟩
theorem bu_digest {post : Int32 → St1 → Prop} {A : bu_T} {Wo Wp : List (Nat × Int32)} {O Q : Nat → Int32} {w h ru pa li : Int32} {a1 a2 a3 a4 a5 a6 a7 a8 a9 a10 a11 a12 a13 a14 a15 a16 a18 a19 a20 a21 : Nat → Int32} {a17 : Nat → Int64} (hLP : bu_LP A Wo Wp a13 a14) (sh : bu_al (bu_sh a13 a14) A) (h31 : bu_sz A ≤ 31) (hR : bu_R Wo Wp O Q a19 a20)
    (hh : post (bu_dg a12 (bu_ad A) 0 0) (w, h, ru, pa, (nI (bu_rt A)), li, a1, a2, a3, a4, a5, a6, a7, a8, a9, a10, a11, a12, a13, a14, a15, a16, a17, a18, O, Q, a21)) : wpX_digest post (w, h, ru, pa, (nI (bu_rt A)), li, a1, a2, a3, a4, a5, a6, a7, a8, a9, a10, a11, a12, a13, a14, a15, a16, a17, a18, a19, a20, a21) := by
  obtain ⟨e1, e2⟩ := hR
  subst e1 e2
  exact hLP.2 _ ⟨_, bu_dg13 h31 (bu_ad A) 0 0 (by rw [bu_len]; omega) (hLP.1 a19) (fun x hx => (bu_sh_ad sh hx).2) hh⟩
/-- equal(b, c): b and c are alike but for order and pile; both are listed anew, alike -/
theorem bu_eq2 {post : Int32 → St2 → Prop} {K : Nat} {A : bu_T} {Wo Wp : List (Nat × Int32)} {O Q : Nat → Int32} {w h pa li : Int32} {a1 a2 a3 a4 a5 a6 a7 a8 a9 a10 a11 a12 a13 a14 a15 a16 a18 a21 : Nat → Int32} {a17 : Nat → Int64} (hK : K ≤ 6) (hLP : bu_LP A Wo Wp a13 a14) (sh : bu_al (bu_sh a13 a14) A) (h16 : a16 (bu_rt A) = nI (bu_sz A)) (h31 : bu_sz A ≤ 31)
    (hp : post 1 (w, h, (nI K), pa, (nI (bu_rt A)), li, a1, a2, a3, a4, a5, a6, a7, a8, a9, a10, a11, a12, a13, a14, a15, a16, a17, a18, O, Q, a21, w, h, (nI K), pa, (nI (bu_rt A)), li, a1, a2, a3, a4, a5, a6, a7, a8, a9, a10, a11, a12, a13, a14, a15, a16, a17, a18, O, Q, a21)) (m : Nat) : ∀ (i : Nat) (o p o' p' : Nat → Int32), i + m = 32 → bu_R Wo Wp O Q o p → bu_R Wo Wp O Q o' p' →
    wL_equal_2 post (m + 1) (nI i) w h (nI K) pa (nI (bu_rt A)) li a1 a2 a3 a4 a5 a6 a7 a8 a9 a10 a11 a12 a13 a14 a15 a16 a17 a18 o p a21 w h (nI K) pa (nI (bu_rt A)) li a1 a2 a3 a4 a5 a6 a7 a8 a9 a10 a11 a12 a13 a14 a15 a16 a17 a18 o' p' a21 := by
  have rA := bu_sh_rt sh
  induction m with
  | zero =>
    intro i o p o' p' hi hR hR'
    have hO : bu_R Wo Wp O Q O Q := by
      have := bu_R_lp hR
      rw [hR.1, hR.2] at this; exact this
    refine pk_le 32 i (fun _ => ⟨pk_in (bu_rt A) 64 rA, pk_in (bu_rt A) 64 rA, br_t rfl (bu_digest hLP sh h31 hR (bu_digest hLP sh h31 hR' (br_t rfl (bu_redexes hK hLP sh h31 hO (bu_redexes hK hLP sh h31 hO (br_t rfl (br_t rfl (br_t rfl hp))))))))⟩) (fun z => absurd z (by omega))
  | succ m ih =>
    intro i o p o' p' hi hR hR'
    refine pk_le 32 i (fun z => absurd z (by omega)) (fun _ => ?_)
    refine bu_symbol hLP sh h16 h31 (by omega) hR (fun o1 p1 r1 => bu_symbol hLP sh h16 h31 (by omega) hR' (fun o2 p2 r2 => br_t rfl ?_))
    refine bu_fits hK hLP sh h16 h31 (by omega) r1 (fun o3 p3 r3 => bu_fits hK hLP sh h16 h31 (by omega) r2 (fun o4 p4 r4 => br_t rfl ?_))
    refine bu_sizeAt hLP sh h16 h31 (by omega) r3 (fun o5 p5 r5 => bu_sizeAt hLP sh h16 h31 (by omega) r4 (fun o6 p6 r6 => br_t rfl (nm_r (nI_1 i) (ih (i + 1) o5 p5 o6 p6 (by omega) r5 r6))))
end
section
/-! the law -/
theorem bu_equalI {W K P : Nat} {ts : List (List Nat)} {A : bu_T} {li : Int32} {a1 a2 a3 a4 a5 a6 a7 a8 a9 a10 a11 a12 a13 a14 a15 a16 a18 a19 a20 a21 : Nat → Int32} {a17 : Nat → Int64} (hI : bu_I W K P ts A a1 a2 a3 a4 a5 a6 a7 a8 a9 a10 a11 a12 a13 a14 a15 a16 a17) :
    ∃ O Q : Nat → Int32, ∀ post : Int32 → St2 → Prop, post 1 ((nI W), (nI ts.length), (nI K), (nI P), (nI (bu_rt A)), li, a1, a2, a3, a4, a5, a6, a7, a8, a9, a10, a11, a12, a13, a14, a15, a16, a17, a18, O, Q, a21, (nI W), (nI ts.length), (nI K), (nI P), (nI (bu_rt A)), li, a1, a2, a3, a4, a5, a6, a7, a8, a9, a10, a11, a12, a13, a14, a15, a16, a17, a18, O, Q, a21) →
      wpL_equal post ((nI W), (nI ts.length), (nI K), (nI P), (nI (bu_rt A)), li, a1, a2, a3, a4, a5, a6, a7, a8, a9, a10, a11, a12, a13, a14, a15, a16, a17, a18, a19, a20, a21, (nI W), (nI ts.length), (nI K), (nI P), (nI (bu_rt A)), li, a1, a2, a3, a4, a5, a6, a7, a8, a9, a10, a11, a12, a13, a14, a15, a16, a17, a18, a19, a20, a21) := by
  obtain ⟨hW, hts, hstk, hK, hP1, hP, htp, t1, t2, t3, t4, t5, t6, t7, t8⟩ := hI
  have sh := bu_nd_sh (bu_ok_nd t1)
  obtain ⟨Wo, Wp, w1, w2⟩ := bu_lp sh t6 t7
  refine ⟨bu_wr a19 Wo, bu_wr a20 Wp, fun post hp => ⟨33, ?_⟩⟩
  exact bu_eq2 hK ⟨w1, w2⟩ sh (bu_ok_size t1 t8) t7 hp 32 0 a19 a20 a19 a20 (by omega) ⟨rfl, rfl⟩ ⟨rfl, rfl⟩
theorem bu_247 {post : Int32 → Prop} {L : Nat} {xs : Nat → Int32} {J : Int32 → Int32 → Int32 → Int32 → Int32 → Int32 → Int32 → (Nat → Int32) → (Nat → Int32) → (Nat → Int32) → (Nat → Int32) → (Nat → Int32) → (Nat → Int32) → (Nat → Int32) → (Nat → Int32) → (Nat → Int32) → (Nat → Int32) → (Nat → Int32) → (Nat → Int32) → (Nat → Int32) → (Nat → Int32) → (Nat → Int32) → (Nat → Int32) → (Nat → Int64) → (Nat → Int32) → (Nat → Int32) → (Nat → Int32) → (Nat → Int32) → Int32 → Int32 → Int32 → Int32 → Int32 → Int32 → (Nat → Int32) → (Nat → Int32) → (Nat → Int32) → (Nat → Int32) → (Nat → Int32) → (Nat → Int32) → (Nat → Int32) → (Nat → Int32) → (Nat → Int32) → (Nat → Int32) → (Nat → Int32) → (Nat → Int32) → (Nat → Int32) → (Nat → Int32) → (Nat → Int32) → (Nat → Int32) → (Nat → Int64) → (Nat → Int32) → (Nat → Int32) → (Nat → Int32) → (Nat → Int32) → Prop} {t kc ks : Nat} {z : Int32} {W K P : Nat} {ts : List (List Nat)} {A : bu_T} {li : Int32} {a1 a2 a3 a4 a5 a6 a7 a8 a9 a10 a11 a12 a13 a14 a15 a16 a18 a19 a20 a21 : Nat → Int32} {a17 : Nat → Int64}
    (hJ : ∀ v : St1, bu_inv v → J (nI (t + 1)) v.1 v.2.1 v.2.2.1 v.2.2.2.1 v.2.2.2.2.1 v.2.2.2.2.2.1 v.2.2.2.2.2.2.1 v.2.2.2.2.2.2.2.1 v.2.2.2.2.2.2.2.2.1 v.2.2.2.2.2.2.2.2.2.1 v.2.2.2.2.2.2.2.2.2.2.1 v.2.2.2.2.2.2.2.2.2.2.2.1 v.2.2.2.2.2.2.2.2.2.2.2.2.1 v.2.2.2.2.2.2.2.2.2.2.2.2.2.1 v.2.2.2.2.2.2.2.2.2.2.2.2.2.2.1 v.2.2.2.2.2.2.2.2.2.2.2.2.2.2.2.1 v.2.2.2.2.2.2.2.2.2.2.2.2.2.2.2.2.1 v.2.2.2.2.2.2.2.2.2.2.2.2.2.2.2.2.2.1 v.2.2.2.2.2.2.2.2.2.2.2.2.2.2.2.2.2.2.1 v.2.2.2.2.2.2.2.2.2.2.2.2.2.2.2.2.2.2.2.1 v.2.2.2.2.2.2.2.2.2.2.2.2.2.2.2.2.2.2.2.2.1 v.2.2.2.2.2.2.2.2.2.2.2.2.2.2.2.2.2.2.2.2.2.1 v.2.2.2.2.2.2.2.2.2.2.2.2.2.2.2.2.2.2.2.2.2.2.1 v.2.2.2.2.2.2.2.2.2.2.2.2.2.2.2.2.2.2.2.2.2.2.2.1 v.2.2.2.2.2.2.2.2.2.2.2.2.2.2.2.2.2.2.2.2.2.2.2.2.1 v.2.2.2.2.2.2.2.2.2.2.2.2.2.2.2.2.2.2.2.2.2.2.2.2.2.1 v.2.2.2.2.2.2.2.2.2.2.2.2.2.2.2.2.2.2.2.2.2.2.2.2.2.2 v.1 v.2.1 v.2.2.1 v.2.2.2.1 v.2.2.2.2.1 v.2.2.2.2.2.1 v.2.2.2.2.2.2.1 v.2.2.2.2.2.2.2.1 v.2.2.2.2.2.2.2.2.1 v.2.2.2.2.2.2.2.2.2.1 v.2.2.2.2.2.2.2.2.2.2.1 v.2.2.2.2.2.2.2.2.2.2.2.1 v.2.2.2.2.2.2.2.2.2.2.2.2.1 v.2.2.2.2.2.2.2.2.2.2.2.2.2.1 v.2.2.2.2.2.2.2.2.2.2.2.2.2.2.1 v.2.2.2.2.2.2.2.2.2.2.2.2.2.2.2.1 v.2.2.2.2.2.2.2.2.2.2.2.2.2.2.2.2.1 v.2.2.2.2.2.2.2.2.2.2.2.2.2.2.2.2.2.1 v.2.2.2.2.2.2.2.2.2.2.2.2.2.2.2.2.2.2.1 v.2.2.2.2.2.2.2.2.2.2.2.2.2.2.2.2.2.2.2.1 v.2.2.2.2.2.2.2.2.2.2.2.2.2.2.2.2.2.2.2.2.1 v.2.2.2.2.2.2.2.2.2.2.2.2.2.2.2.2.2.2.2.2.2.1 v.2.2.2.2.2.2.2.2.2.2.2.2.2.2.2.2.2.2.2.2.2.2.1 v.2.2.2.2.2.2.2.2.2.2.2.2.2.2.2.2.2.2.2.2.2.2.2.1 v.2.2.2.2.2.2.2.2.2.2.2.2.2.2.2.2.2.2.2.2.2.2.2.2.1 v.2.2.2.2.2.2.2.2.2.2.2.2.2.2.2.2.2.2.2.2.2.2.2.2.2.1 v.2.2.2.2.2.2.2.2.2.2.2.2.2.2.2.2.2.2.2.2.2.2.2.2.2.2) (hI : bu_I W K P ts A a1 a2 a3 a4 a5 a6 a7 a8 a9 a10 a11 a12 a13 a14 a15 a16 a17) :
    wL_law_247 post L xs J (nI t) z z kc ks (nI W) (nI ts.length) (nI K) (nI P) (nI (bu_rt A)) li a1 a2 a3 a4 a5 a6 a7 a8 a9 a10 a11 a12 a13 a14 a15 a16 a17 a18 a19 a20 a21 (nI W) (nI ts.length) (nI K) (nI P) (nI (bu_rt A)) li a1 a2 a3 a4 a5 a6 a7 a8 a9 a10 a11 a12 a13 a14 a15 a16 a17 a18 a19 a20 a21 := by
  obtain ⟨O, Q, hw⟩ := bu_equalI (li := li) (a18 := a18) (a19 := a19) (a20 := a20) (a21 := a21) hI
  exact br_t rfl (hw _ (br_f (by decide) (nm_r (nI_1 t) (hJ _ (bu_mki (li := li) (a18 := a18) (a19 := O) (a20 := Q) (a21 := a21) hI)))))
/-- the checks behind step and run -/
theorem bu_188 {post : Int32 → Prop} {L : Nat} {xs : Nat → Int32} {J : Int32 → Int32 → Int32 → Int32 → Int32 → Int32 → Int32 → (Nat → Int32) → (Nat → Int32) → (Nat → Int32) → (Nat → Int32) → (Nat → Int32) → (Nat → Int32) → (Nat → Int32) → (Nat → Int32) → (Nat → Int32) → (Nat → Int32) → (Nat → Int32) → (Nat → Int32) → (Nat → Int32) → (Nat → Int32) → (Nat → Int32) → (Nat → Int32) → (Nat → Int64) → (Nat → Int32) → (Nat → Int32) → (Nat → Int32) → (Nat → Int32) → Int32 → Int32 → Int32 → Int32 → Int32 → Int32 → (Nat → Int32) → (Nat → Int32) → (Nat → Int32) → (Nat → Int32) → (Nat → Int32) → (Nat → Int32) → (Nat → Int32) → (Nat → Int32) → (Nat → Int32) → (Nat → Int32) → (Nat → Int32) → (Nat → Int32) → (Nat → Int32) → (Nat → Int32) → (Nat → Int32) → (Nat → Int32) → (Nat → Int64) → (Nat → Int32) → (Nat → Int32) → (Nat → Int32) → (Nat → Int32) → Prop} {t kc ks c : Nat} {x4 r : Int32} {W K P : Nat} {ts : List (List Nat)} {A : bu_T} {li : Int32} {a1 a2 a3 a4 a5 a6 a7 a8 a9 a10 a11 a12 a13 a14 a15 a16 a18 a19 a20 a21 : Nat → Int32} {a17 : Nat → Int64}
    (hJ : ∀ v : St1, bu_inv v → J (nI (t + 1)) v.1 v.2.1 v.2.2.1 v.2.2.2.1 v.2.2.2.2.1 v.2.2.2.2.2.1 v.2.2.2.2.2.2.1 v.2.2.2.2.2.2.2.1 v.2.2.2.2.2.2.2.2.1 v.2.2.2.2.2.2.2.2.2.1 v.2.2.2.2.2.2.2.2.2.2.1 v.2.2.2.2.2.2.2.2.2.2.2.1 v.2.2.2.2.2.2.2.2.2.2.2.2.1 v.2.2.2.2.2.2.2.2.2.2.2.2.2.1 v.2.2.2.2.2.2.2.2.2.2.2.2.2.2.1 v.2.2.2.2.2.2.2.2.2.2.2.2.2.2.2.1 v.2.2.2.2.2.2.2.2.2.2.2.2.2.2.2.2.1 v.2.2.2.2.2.2.2.2.2.2.2.2.2.2.2.2.2.1 v.2.2.2.2.2.2.2.2.2.2.2.2.2.2.2.2.2.2.1 v.2.2.2.2.2.2.2.2.2.2.2.2.2.2.2.2.2.2.2.1 v.2.2.2.2.2.2.2.2.2.2.2.2.2.2.2.2.2.2.2.2.1 v.2.2.2.2.2.2.2.2.2.2.2.2.2.2.2.2.2.2.2.2.2.1 v.2.2.2.2.2.2.2.2.2.2.2.2.2.2.2.2.2.2.2.2.2.2.1 v.2.2.2.2.2.2.2.2.2.2.2.2.2.2.2.2.2.2.2.2.2.2.2.1 v.2.2.2.2.2.2.2.2.2.2.2.2.2.2.2.2.2.2.2.2.2.2.2.2.1 v.2.2.2.2.2.2.2.2.2.2.2.2.2.2.2.2.2.2.2.2.2.2.2.2.2.1 v.2.2.2.2.2.2.2.2.2.2.2.2.2.2.2.2.2.2.2.2.2.2.2.2.2.2 v.1 v.2.1 v.2.2.1 v.2.2.2.1 v.2.2.2.2.1 v.2.2.2.2.2.1 v.2.2.2.2.2.2.1 v.2.2.2.2.2.2.2.1 v.2.2.2.2.2.2.2.2.1 v.2.2.2.2.2.2.2.2.2.1 v.2.2.2.2.2.2.2.2.2.2.1 v.2.2.2.2.2.2.2.2.2.2.2.1 v.2.2.2.2.2.2.2.2.2.2.2.2.1 v.2.2.2.2.2.2.2.2.2.2.2.2.2.1 v.2.2.2.2.2.2.2.2.2.2.2.2.2.2.1 v.2.2.2.2.2.2.2.2.2.2.2.2.2.2.2.1 v.2.2.2.2.2.2.2.2.2.2.2.2.2.2.2.2.1 v.2.2.2.2.2.2.2.2.2.2.2.2.2.2.2.2.2.1 v.2.2.2.2.2.2.2.2.2.2.2.2.2.2.2.2.2.2.1 v.2.2.2.2.2.2.2.2.2.2.2.2.2.2.2.2.2.2.2.1 v.2.2.2.2.2.2.2.2.2.2.2.2.2.2.2.2.2.2.2.2.1 v.2.2.2.2.2.2.2.2.2.2.2.2.2.2.2.2.2.2.2.2.2.1 v.2.2.2.2.2.2.2.2.2.2.2.2.2.2.2.2.2.2.2.2.2.2.1 v.2.2.2.2.2.2.2.2.2.2.2.2.2.2.2.2.2.2.2.2.2.2.2.1 v.2.2.2.2.2.2.2.2.2.2.2.2.2.2.2.2.2.2.2.2.2.2.2.2.1 v.2.2.2.2.2.2.2.2.2.2.2.2.2.2.2.2.2.2.2.2.2.2.2.2.2.1 v.2.2.2.2.2.2.2.2.2.2.2.2.2.2.2.2.2.2.2.2.2.2.2.2.2.2) (hI : bu_I W K P ts A a1 a2 a3 a4 a5 a6 a7 a8 a9 a10 a11 a12 a13 a14 a15 a16 a17)
    (hc : c < 2 ^ 31) (hc4 : c = 0 ↔ x4 = -4) (hr : (x4 = -4 ∧ r = -4) ∨ ∃ j, j < 31 ∧ x4 = nI j ∧ (r = nI j ∨ r = -2)) :
    (r = (-4) → wL_law_188 post L xs J (nI t) x4 (nI c) r (if r < 0 then 0 else 1) 1 kc ks (nI W) (nI ts.length) (nI K) (nI P) (nI (bu_rt A)) li a1 a2 a3 a4 a5 a6 a7 a8 a9 a10 a11 a12 a13 a14 a15 a16 a17 a18 a19 a20 a21 (nI W) (nI ts.length) (nI K) (nI P) (nI (bu_rt A)) li a1 a2 a3 a4 a5 a6 a7 a8 a9 a10 a11 a12 a13 a14 a15 a16 a17 a18 a19 a20 a21) ∧
    (¬ r = (-4) → wL_law_188 post L xs J (nI t) x4 (nI c) r (if r < 0 then 0 else 1) 0 kc ks (nI W) (nI ts.length) (nI K) (nI P) (nI (bu_rt A)) li a1 a2 a3 a4 a5 a6 a7 a8 a9 a10 a11 a12 a13 a14 a15 a16 a17 a18 a19 a20 a21 (nI W) (nI ts.length) (nI K) (nI P) (nI (bu_rt A)) li a1 a2 a3 a4 a5 a6 a7 a8 a9 a10 a11 a12 a13 a14 a15 a16 a17 a18 a19 a20 a21) := by
  rcases hr with ⟨h4, e⟩ | ⟨j, hj, h4, e⟩
  · subst e
    have c0 : c = 0 := hc4.mpr h4
    refine br_t rfl (br_t (by rw [c0]; rfl) (br_t rfl (br_t (by decide) (br_f (by decide) (br_f (by decide) (br_f (by decide) (br_t (by decide) ?_)))))))
    rw [if_pos (by decide)]
    exact bu_247 hJ hI
  · have c0 : ¬ nI c = 0 := by
      refine nI_ne0 ?_ hc
      rcases Nat.eq_zero_or_pos c with z | z
      · have := hc4.mp z
        rw [h4] at this
        exact absurd (show nI j < 0 by rw [this]; decide) (nI_pos (by omega))
      · exact z
    rcases e with e | e
    · subst e
      have n0 : ¬ nI j < 0 := nI_pos (by omega)
      have ne : ∀ y : Int32, y < 0 → ¬ nI j = y := fun y hy z => n0 (z ▸ hy)
      have n4 : ¬ nI j < -4 := by
        intro z
        exact n0 (Int32.lt_trans z (by decide))
      refine br_f (ne _ (by decide)) (br_f c0 (br_t rfl (br_f n0 (br_t h4.symm (br_f n4 (br_f (ne _ (by decide)) (br_f (ne _ (by decide)) (br_f n0 ?_))))))))
      rw [if_neg n0]
      exact bu_247 hJ hI
    · subst e
      refine br_f (by decide) (br_f c0 (br_t rfl (br_t (by decide) (br_f (by decide) (br_f (by decide) (br_f (by decide) (br_t (by decide) ?_)))))))
      rw [if_pos (by decide)]
      exact bu_247 hJ hI
theorem bu_140 {post : Int32 → Prop} {L : Nat} {xs : Nat → Int32} {J : Int32 → Int32 → Int32 → Int32 → Int32 → Int32 → Int32 → (Nat → Int32) → (Nat → Int32) → (Nat → Int32) → (Nat → Int32) → (Nat → Int32) → (Nat → Int32) → (Nat → Int32) → (Nat → Int32) → (Nat → Int32) → (Nat → Int32) → (Nat → Int32) → (Nat → Int32) → (Nat → Int32) → (Nat → Int32) → (Nat → Int32) → (Nat → Int32) → (Nat → Int64) → (Nat → Int32) → (Nat → Int32) → (Nat → Int32) → (Nat → Int32) → Int32 → Int32 → Int32 → Int32 → Int32 → Int32 → (Nat → Int32) → (Nat → Int32) → (Nat → Int32) → (Nat → Int32) → (Nat → Int32) → (Nat → Int32) → (Nat → Int32) → (Nat → Int32) → (Nat → Int32) → (Nat → Int32) → (Nat → Int32) → (Nat → Int32) → (Nat → Int32) → (Nat → Int32) → (Nat → Int32) → (Nat → Int32) → (Nat → Int64) → (Nat → Int32) → (Nat → Int32) → (Nat → Int32) → (Nat → Int32) → Prop} {t kc ks : Nat} {z : Int32} {W K P : Nat} {ts : List (List Nat)} {A : bu_T} {Wo Wp : List (Nat × Int32)} {O Q o p : Nat → Int32} {li : Int32} {a1 a2 a3 a4 a5 a6 a7 a8 a9 a10 a11 a12 a13 a14 a15 a16 a18 a21 : Nat → Int32} {a17 : Nat → Int64}
    (hJ : ∀ v : St1, bu_inv v → J (nI (t + 1)) v.1 v.2.1 v.2.2.1 v.2.2.2.1 v.2.2.2.2.1 v.2.2.2.2.2.1 v.2.2.2.2.2.2.1 v.2.2.2.2.2.2.2.1 v.2.2.2.2.2.2.2.2.1 v.2.2.2.2.2.2.2.2.2.1 v.2.2.2.2.2.2.2.2.2.2.1 v.2.2.2.2.2.2.2.2.2.2.2.1 v.2.2.2.2.2.2.2.2.2.2.2.2.1 v.2.2.2.2.2.2.2.2.2.2.2.2.2.1 v.2.2.2.2.2.2.2.2.2.2.2.2.2.2.1 v.2.2.2.2.2.2.2.2.2.2.2.2.2.2.2.1 v.2.2.2.2.2.2.2.2.2.2.2.2.2.2.2.2.1 v.2.2.2.2.2.2.2.2.2.2.2.2.2.2.2.2.2.1 v.2.2.2.2.2.2.2.2.2.2.2.2.2.2.2.2.2.2.1 v.2.2.2.2.2.2.2.2.2.2.2.2.2.2.2.2.2.2.2.1 v.2.2.2.2.2.2.2.2.2.2.2.2.2.2.2.2.2.2.2.2.1 v.2.2.2.2.2.2.2.2.2.2.2.2.2.2.2.2.2.2.2.2.2.1 v.2.2.2.2.2.2.2.2.2.2.2.2.2.2.2.2.2.2.2.2.2.2.1 v.2.2.2.2.2.2.2.2.2.2.2.2.2.2.2.2.2.2.2.2.2.2.2.1 v.2.2.2.2.2.2.2.2.2.2.2.2.2.2.2.2.2.2.2.2.2.2.2.2.1 v.2.2.2.2.2.2.2.2.2.2.2.2.2.2.2.2.2.2.2.2.2.2.2.2.2.1 v.2.2.2.2.2.2.2.2.2.2.2.2.2.2.2.2.2.2.2.2.2.2.2.2.2.2 v.1 v.2.1 v.2.2.1 v.2.2.2.1 v.2.2.2.2.1 v.2.2.2.2.2.1 v.2.2.2.2.2.2.1 v.2.2.2.2.2.2.2.1 v.2.2.2.2.2.2.2.2.1 v.2.2.2.2.2.2.2.2.2.1 v.2.2.2.2.2.2.2.2.2.2.1 v.2.2.2.2.2.2.2.2.2.2.2.1 v.2.2.2.2.2.2.2.2.2.2.2.2.1 v.2.2.2.2.2.2.2.2.2.2.2.2.2.1 v.2.2.2.2.2.2.2.2.2.2.2.2.2.2.1 v.2.2.2.2.2.2.2.2.2.2.2.2.2.2.2.1 v.2.2.2.2.2.2.2.2.2.2.2.2.2.2.2.2.1 v.2.2.2.2.2.2.2.2.2.2.2.2.2.2.2.2.2.1 v.2.2.2.2.2.2.2.2.2.2.2.2.2.2.2.2.2.2.1 v.2.2.2.2.2.2.2.2.2.2.2.2.2.2.2.2.2.2.2.1 v.2.2.2.2.2.2.2.2.2.2.2.2.2.2.2.2.2.2.2.2.1 v.2.2.2.2.2.2.2.2.2.2.2.2.2.2.2.2.2.2.2.2.2.1 v.2.2.2.2.2.2.2.2.2.2.2.2.2.2.2.2.2.2.2.2.2.2.1 v.2.2.2.2.2.2.2.2.2.2.2.2.2.2.2.2.2.2.2.2.2.2.2.1 v.2.2.2.2.2.2.2.2.2.2.2.2.2.2.2.2.2.2.2.2.2.2.2.2.1 v.2.2.2.2.2.2.2.2.2.2.2.2.2.2.2.2.2.2.2.2.2.2.2.2.2.1 v.2.2.2.2.2.2.2.2.2.2.2.2.2.2.2.2.2.2.2.2.2.2.2.2.2.2) (hI : bu_I W K P ts A a1 a2 a3 a4 a5 a6 a7 a8 a9 a10 a11 a12 a13 a14 a15 a16 a17) (hLP : bu_LP A Wo Wp a13 a14) (hO : bu_R Wo Wp O Q O Q) (hR : bu_R Wo Wp O Q o p) :
    wL_law_140 post L xs J (nI t) (bu_nx (fun x => bu_ra a10 (a17 x) K 0) (bu_ad A) 0) (nI (bu_rc (fun x => bu_ra a10 (a17 x) K 0) (bu_ad A) 0)) (nI (bu_sz A)) z z kc ks (nI W) (nI ts.length) (nI K) (nI P) (nI (bu_rt A)) li a1 a2 a3 a4 a5 a6 a7 a8 a9 a10 a11 a12 a13 a14 a15 a16 a17 a18 O Q a21 (nI W) (nI ts.length) (nI K) (nI P) (nI (bu_rt A)) li a1 a2 a3 a4 a5 a6 a7 a8 a9 a10 a11 a12 a13 a14 a15 a16 a17 a18 o p a21 := by
  have hI' := hI
  obtain ⟨hW, hts, hstk, hK, hP1, hP, htp, t1, t2, t3, t4, t5, t6, t7, t8⟩ := hI'
  have sh := bu_nd_sh (bu_ok_nd t1)
  have h16 := bu_ok_size t1 t8
  have e0 : bu_fi a16 (bu_ad A) 0 = nI (bu_sz A) := by
    rw [← h16]
    cases A with
    | leaf u => simp [bu_sz] at t6
    | branch k l r => rfl
  obtain ⟨r, u', h1, hr, hw⟩ := bu_step (li := li) (a18 := a18) (a19 := O) (a20 := Q) (a21 := a21) hI
  have hw1 := bu_run1 hw
  refine br_t rfl (bu_sizeAt (i := 0) hLP sh h16 t7 (by omega) hO (fun o1 p1 r1 => br_t e0 ⟨33, bu_eq2 hK hLP sh h16 t7 ?_ 32 0 o1 p1 o p (by omega) r1 hR⟩))
  refine br_f (by decide) (hw _ ?_)
  obtain ⟨W', K', P', ts', A', li', b1, b2, b3, b4, b5, b6, b7, b8, b9, b10, b11, b12, b13, b14, b15, b16, b18, b19, b20, b21, b17, rfl, hI2⟩ := h1
  refine hw1 _ ?_
  have hcl := bu_rc_le (fun x => bu_ra a10 (a17 x) K 0) (bu_ad A) 0
  rw [bu_len] at hcl
  exact bu_188 hJ hI2 (by omega) (bu_rc_nx _ _ 0 0 (by rw [bu_len]; omega)) hr
theorem bu_73 {post : Int32 → Prop} {L : Nat} {xs : Nat → Int32} {J : Int32 → Int32 → Int32 → Int32 → Int32 → Int32 → Int32 → (Nat → Int32) → (Nat → Int32) → (Nat → Int32) → (Nat → Int32) → (Nat → Int32) → (Nat → Int32) → (Nat → Int32) → (Nat → Int32) → (Nat → Int32) → (Nat → Int32) → (Nat → Int32) → (Nat → Int32) → (Nat → Int32) → (Nat → Int32) → (Nat → Int32) → (Nat → Int32) → (Nat → Int64) → (Nat → Int32) → (Nat → Int32) → (Nat → Int32) → (Nat → Int32) → Int32 → Int32 → Int32 → Int32 → Int32 → Int32 → (Nat → Int32) → (Nat → Int32) → (Nat → Int32) → (Nat → Int32) → (Nat → Int32) → (Nat → Int32) → (Nat → Int32) → (Nat → Int32) → (Nat → Int32) → (Nat → Int32) → (Nat → Int32) → (Nat → Int32) → (Nat → Int32) → (Nat → Int32) → (Nat → Int32) → (Nat → Int32) → (Nat → Int64) → (Nat → Int32) → (Nat → Int32) → (Nat → Int32) → (Nat → Int32) → Prop} {t kc ks : Nat} {W K P : Nat} {ts : List (List Nat)} {A : bu_T} {Wo Wp : List (Nat × Int32)} {O Q o' p' : Nat → Int32} {li : Int32} {a1 a2 a3 a4 a5 a6 a7 a8 a9 a10 a11 a12 a13 a14 a15 a16 a18 a21 : Nat → Int32} {a17 : Nat → Int64}
    (hJ : ∀ v : St1, bu_inv v → J (nI (t + 1)) v.1 v.2.1 v.2.2.1 v.2.2.2.1 v.2.2.2.2.1 v.2.2.2.2.2.1 v.2.2.2.2.2.2.1 v.2.2.2.2.2.2.2.1 v.2.2.2.2.2.2.2.2.1 v.2.2.2.2.2.2.2.2.2.1 v.2.2.2.2.2.2.2.2.2.2.1 v.2.2.2.2.2.2.2.2.2.2.2.1 v.2.2.2.2.2.2.2.2.2.2.2.2.1 v.2.2.2.2.2.2.2.2.2.2.2.2.2.1 v.2.2.2.2.2.2.2.2.2.2.2.2.2.2.1 v.2.2.2.2.2.2.2.2.2.2.2.2.2.2.2.1 v.2.2.2.2.2.2.2.2.2.2.2.2.2.2.2.2.1 v.2.2.2.2.2.2.2.2.2.2.2.2.2.2.2.2.2.1 v.2.2.2.2.2.2.2.2.2.2.2.2.2.2.2.2.2.2.1 v.2.2.2.2.2.2.2.2.2.2.2.2.2.2.2.2.2.2.2.1 v.2.2.2.2.2.2.2.2.2.2.2.2.2.2.2.2.2.2.2.2.1 v.2.2.2.2.2.2.2.2.2.2.2.2.2.2.2.2.2.2.2.2.2.1 v.2.2.2.2.2.2.2.2.2.2.2.2.2.2.2.2.2.2.2.2.2.2.1 v.2.2.2.2.2.2.2.2.2.2.2.2.2.2.2.2.2.2.2.2.2.2.2.1 v.2.2.2.2.2.2.2.2.2.2.2.2.2.2.2.2.2.2.2.2.2.2.2.2.1 v.2.2.2.2.2.2.2.2.2.2.2.2.2.2.2.2.2.2.2.2.2.2.2.2.2.1 v.2.2.2.2.2.2.2.2.2.2.2.2.2.2.2.2.2.2.2.2.2.2.2.2.2.2 v.1 v.2.1 v.2.2.1 v.2.2.2.1 v.2.2.2.2.1 v.2.2.2.2.2.1 v.2.2.2.2.2.2.1 v.2.2.2.2.2.2.2.1 v.2.2.2.2.2.2.2.2.1 v.2.2.2.2.2.2.2.2.2.1 v.2.2.2.2.2.2.2.2.2.2.1 v.2.2.2.2.2.2.2.2.2.2.2.1 v.2.2.2.2.2.2.2.2.2.2.2.2.1 v.2.2.2.2.2.2.2.2.2.2.2.2.2.1 v.2.2.2.2.2.2.2.2.2.2.2.2.2.2.1 v.2.2.2.2.2.2.2.2.2.2.2.2.2.2.2.1 v.2.2.2.2.2.2.2.2.2.2.2.2.2.2.2.2.1 v.2.2.2.2.2.2.2.2.2.2.2.2.2.2.2.2.2.1 v.2.2.2.2.2.2.2.2.2.2.2.2.2.2.2.2.2.2.1 v.2.2.2.2.2.2.2.2.2.2.2.2.2.2.2.2.2.2.2.1 v.2.2.2.2.2.2.2.2.2.2.2.2.2.2.2.2.2.2.2.2.1 v.2.2.2.2.2.2.2.2.2.2.2.2.2.2.2.2.2.2.2.2.2.1 v.2.2.2.2.2.2.2.2.2.2.2.2.2.2.2.2.2.2.2.2.2.2.1 v.2.2.2.2.2.2.2.2.2.2.2.2.2.2.2.2.2.2.2.2.2.2.2.1 v.2.2.2.2.2.2.2.2.2.2.2.2.2.2.2.2.2.2.2.2.2.2.2.2.1 v.2.2.2.2.2.2.2.2.2.2.2.2.2.2.2.2.2.2.2.2.2.2.2.2.2.1 v.2.2.2.2.2.2.2.2.2.2.2.2.2.2.2.2.2.2.2.2.2.2.2.2.2.2) (hI : bu_I W K P ts A a1 a2 a3 a4 a5 a6 a7 a8 a9 a10 a11 a12 a13 a14 a15 a16 a17) (hLP : bu_LP A Wo Wp a13 a14) (hO : bu_R Wo Wp O Q O Q) (hR : bu_R Wo Wp O Q o' p') (i : Nat) : ∀ o p, bu_R Wo Wp O Q o p → i ≤ 32 →
    wL_law_73 post L xs J (nI t) kc ks (i + 1) (bu_nx (fun x => bu_ra a10 (a17 x) K 0) ((bu_ad A).drop i) i) (nI i + (-1)) (nI W) (nI ts.length) (nI K) (nI P) (nI (bu_rt A)) li a1 a2 a3 a4 a5 a6 a7 a8 a9 a10 a11 a12 a13 a14 a15 a16 a17 a18 o p a21 (nI W) (nI ts.length) (nI K) (nI P) (nI (bu_rt A)) li a1 a2 a3 a4 a5 a6 a7 a8 a9 a10 a11 a12 a13 a14 a15 a16 a17 a18 o' p' a21 := by
  have hI' := hI
  obtain ⟨hW, hts, hstk, hK, hP1, hP, htp, t1, t2, t3, t4, t5, t6, t7, t8⟩ := hI'
  have sh := bu_nd_sh (bu_ok_nd t1)
  have h16 := bu_ok_size t1 t8
  have rA := bu_sh_rt sh
  induction i with
  | zero =>
    intro o p hr _
    rw [List.drop_zero]
    have hcl := bu_rc_le (fun x => bu_ra a10 (a17 x) K 0) (bu_ad A) 0
    rw [bu_len] at hcl
    have hcn := bu_rc_nx (fun x => bu_ra a10 (a17 x) K 0) (bu_ad A) 0 0 (by rw [bu_len]; omega)
    refine br_t (by decide) (bu_redexes hK hLP sh t7 hr ⟨pk_in (bu_rt A) 64 rA, ?_⟩)
    rw [nI_clamp (show bu_rt A < 2 ^ 31 by omega), h16]
    by_cases e : bu_rc (fun x => bu_ra a10 (a17 x) K 0) (bu_ad A) 0 = 0
    · exact br_t (by rw [e]; rfl) (br_t (hcn.mp e) (bu_140 hJ hI hLP hO hR))
    · exact br_f (nI_ne0 (by omega) (by omega)) (br_f (fun z => e (hcn.mpr z)) (bu_140 hJ hI hLP hO hR))
  | succ i ih =>
    intro o p hr hi
    rw [pk_m1]
    refine br_f (nI_pos (by omega)) (bu_fits hK hLP sh h16 t7 (by omega) hr (fun o1 p1 r1 => ?_))
    have tt := ih o1 p1 r1 (by omega)
    by_cases hil : i < (bu_ad A).length
    · have ed : (bu_ad A).drop i = (bu_ad A)[i] :: (bu_ad A).drop (i + 1) := List.drop_eq_getElem_cons hil
      have ef : bu_fi (fun x => bu_ra a10 (a17 x) K 0) (bu_ad A) i = bu_ra a10 (a17 (bu_ad A)[i]) K 0 := by
        rw [bu_fi, List.getElem?_eq_getElem hil]
      rw [ed, bu_nx] at tt
      rw [ef]
      refine br_c (fun e => nm_e ?_) (fun e => nm_e ?_)
      · rw [if_pos e] at tt; exact tt
      · rw [if_neg e] at tt; exact tt
    · have ed : (bu_ad A).drop i = [] := List.drop_eq_nil_of_le (by omega)
      have ed2 : (bu_ad A).drop (i + 1) = [] := List.drop_eq_nil_of_le (by omega)
      have ef : bu_fi (fun x => bu_ra a10 (a17 x) K 0) (bu_ad A) i = -4 := by
        rw [bu_fi, List.getElem?_eq_none (by omega)]
      rw [ed] at tt
      rw [ef, ed2]
      exact br_t (by decide) (nm_e tt)
theorem bu_60 {post : Int32 → Prop} {L : Nat} {xs : Nat → Int32} {kc ks : Nat} (hp : post 1) (m : Nat) : ∀ (t : Nat) (u : St1), t + m = 5 → bu_inv u → wL_law_60 post L xs kc ks (m + 1) (nI t) u.1 u.2.1 u.2.2.1 u.2.2.2.1 u.2.2.2.2.1 u.2.2.2.2.2.1 u.2.2.2.2.2.2.1 u.2.2.2.2.2.2.2.1 u.2.2.2.2.2.2.2.2.1 u.2.2.2.2.2.2.2.2.2.1 u.2.2.2.2.2.2.2.2.2.2.1 u.2.2.2.2.2.2.2.2.2.2.2.1 u.2.2.2.2.2.2.2.2.2.2.2.2.1 u.2.2.2.2.2.2.2.2.2.2.2.2.2.1 u.2.2.2.2.2.2.2.2.2.2.2.2.2.2.1 u.2.2.2.2.2.2.2.2.2.2.2.2.2.2.2.1 u.2.2.2.2.2.2.2.2.2.2.2.2.2.2.2.2.1 u.2.2.2.2.2.2.2.2.2.2.2.2.2.2.2.2.2.1 u.2.2.2.2.2.2.2.2.2.2.2.2.2.2.2.2.2.2.1 u.2.2.2.2.2.2.2.2.2.2.2.2.2.2.2.2.2.2.2.1 u.2.2.2.2.2.2.2.2.2.2.2.2.2.2.2.2.2.2.2.2.1 u.2.2.2.2.2.2.2.2.2.2.2.2.2.2.2.2.2.2.2.2.2.1 u.2.2.2.2.2.2.2.2.2.2.2.2.2.2.2.2.2.2.2.2.2.2.1 u.2.2.2.2.2.2.2.2.2.2.2.2.2.2.2.2.2.2.2.2.2.2.2.1 u.2.2.2.2.2.2.2.2.2.2.2.2.2.2.2.2.2.2.2.2.2.2.2.2.1 u.2.2.2.2.2.2.2.2.2.2.2.2.2.2.2.2.2.2.2.2.2.2.2.2.2.1 u.2.2.2.2.2.2.2.2.2.2.2.2.2.2.2.2.2.2.2.2.2.2.2.2.2.2 u.1 u.2.1 u.2.2.1 u.2.2.2.1 u.2.2.2.2.1 u.2.2.2.2.2.1 u.2.2.2.2.2.2.1 u.2.2.2.2.2.2.2.1 u.2.2.2.2.2.2.2.2.1 u.2.2.2.2.2.2.2.2.2.1 u.2.2.2.2.2.2.2.2.2.2.1 u.2.2.2.2.2.2.2.2.2.2.2.1 u.2.2.2.2.2.2.2.2.2.2.2.2.1 u.2.2.2.2.2.2.2.2.2.2.2.2.2.1 u.2.2.2.2.2.2.2.2.2.2.2.2.2.2.1 u.2.2.2.2.2.2.2.2.2.2.2.2.2.2.2.1 u.2.2.2.2.2.2.2.2.2.2.2.2.2.2.2.2.1 u.2.2.2.2.2.2.2.2.2.2.2.2.2.2.2.2.2.1 u.2.2.2.2.2.2.2.2.2.2.2.2.2.2.2.2.2.2.1 u.2.2.2.2.2.2.2.2.2.2.2.2.2.2.2.2.2.2.2.1 u.2.2.2.2.2.2.2.2.2.2.2.2.2.2.2.2.2.2.2.2.1 u.2.2.2.2.2.2.2.2.2.2.2.2.2.2.2.2.2.2.2.2.2.1 u.2.2.2.2.2.2.2.2.2.2.2.2.2.2.2.2.2.2.2.2.2.2.1 u.2.2.2.2.2.2.2.2.2.2.2.2.2.2.2.2.2.2.2.2.2.2.2.1 u.2.2.2.2.2.2.2.2.2.2.2.2.2.2.2.2.2.2.2.2.2.2.2.2.1 u.2.2.2.2.2.2.2.2.2.2.2.2.2.2.2.2.2.2.2.2.2.2.2.2.2.1 u.2.2.2.2.2.2.2.2.2.2.2.2.2.2.2.2.2.2.2.2.2.2.2.2.2.2 := by
  induction m with
  | zero => intro t u ht _; exact pk_le 5 t (fun _ => hp) (fun z => absurd z (by omega))
  | succ m ih =>
    intro t u ht hu
    obtain ⟨W, K, P, ts, A, li, a1, a2, a3, a4, a5, a6, a7, a8, a9, a10, a11, a12, a13, a14, a15, a16, a18, a19, a20, a21, a17, rfl, hI⟩ := hu
    have hI' := hI
    obtain ⟨hW, hts, hstk, hK, hP1, hP, htp, t1, t2, t3, t4, t5, t6, t7, t8⟩ := hI'
    have sh := bu_nd_sh (bu_ok_nd t1)
    obtain ⟨Wo, Wp, w1, w2⟩ := bu_lp sh t6 t7
    have hR : bu_R Wo Wp (bu_wr a19 Wo) (bu_wr a20 Wp) a19 a20 := ⟨rfl, rfl⟩
    have t73 := bu_73 (post := post) (L := L) (xs := xs) (kc := kc) (ks := ks) (t := t) (li := li) (a18 := a18) (a21 := a21) (J := wL_law_60 post L xs kc ks (m + 1)) (fun v hv => ih (t + 1) v (by omega) hv) hI ⟨w1, w2⟩ (bu_R_lp hR) hR 32 a19 a20 hR (by omega)
    rw [List.drop_eq_nil_of_le (by rw [bu_len]; omega)] at t73
    exact pk_le 5 t (fun z => absurd z (by omega)) (fun _ => ⟨33, t73⟩)
theorem bu_18 {post : Int32 → Prop} {L : Nat} {xs : Nat → Int32} {kc ks : Nat} (hL : L ≤ 260) (hp : post 1) (m : Nat) : ∀ (k : Nat) (u : St1), L ≤ k + m → k ≤ 300 → bu_inv u → wL_law_18 post L xs kc ks (m + 1) (nI k) u.1 u.2.1 u.2.2.1 u.2.2.2.1 u.2.2.2.2.1 u.2.2.2.2.2.1 u.2.2.2.2.2.2.1 u.2.2.2.2.2.2.2.1 u.2.2.2.2.2.2.2.2.1 u.2.2.2.2.2.2.2.2.2.1 u.2.2.2.2.2.2.2.2.2.2.1 u.2.2.2.2.2.2.2.2.2.2.2.1 u.2.2.2.2.2.2.2.2.2.2.2.2.1 u.2.2.2.2.2.2.2.2.2.2.2.2.2.1 u.2.2.2.2.2.2.2.2.2.2.2.2.2.2.1 u.2.2.2.2.2.2.2.2.2.2.2.2.2.2.2.1 u.2.2.2.2.2.2.2.2.2.2.2.2.2.2.2.2.1 u.2.2.2.2.2.2.2.2.2.2.2.2.2.2.2.2.2.1 u.2.2.2.2.2.2.2.2.2.2.2.2.2.2.2.2.2.2.1 u.2.2.2.2.2.2.2.2.2.2.2.2.2.2.2.2.2.2.2.1 u.2.2.2.2.2.2.2.2.2.2.2.2.2.2.2.2.2.2.2.2.1 u.2.2.2.2.2.2.2.2.2.2.2.2.2.2.2.2.2.2.2.2.2.1 u.2.2.2.2.2.2.2.2.2.2.2.2.2.2.2.2.2.2.2.2.2.2.1 u.2.2.2.2.2.2.2.2.2.2.2.2.2.2.2.2.2.2.2.2.2.2.2.1 u.2.2.2.2.2.2.2.2.2.2.2.2.2.2.2.2.2.2.2.2.2.2.2.2.1 u.2.2.2.2.2.2.2.2.2.2.2.2.2.2.2.2.2.2.2.2.2.2.2.2.2.1 u.2.2.2.2.2.2.2.2.2.2.2.2.2.2.2.2.2.2.2.2.2.2.2.2.2.2 u.1 u.2.1 u.2.2.1 u.2.2.2.1 u.2.2.2.2.1 u.2.2.2.2.2.1 u.2.2.2.2.2.2.1 u.2.2.2.2.2.2.2.1 u.2.2.2.2.2.2.2.2.1 u.2.2.2.2.2.2.2.2.2.1 u.2.2.2.2.2.2.2.2.2.2.1 u.2.2.2.2.2.2.2.2.2.2.2.1 u.2.2.2.2.2.2.2.2.2.2.2.2.1 u.2.2.2.2.2.2.2.2.2.2.2.2.2.1 u.2.2.2.2.2.2.2.2.2.2.2.2.2.2.1 u.2.2.2.2.2.2.2.2.2.2.2.2.2.2.2.1 u.2.2.2.2.2.2.2.2.2.2.2.2.2.2.2.2.1 u.2.2.2.2.2.2.2.2.2.2.2.2.2.2.2.2.2.1 u.2.2.2.2.2.2.2.2.2.2.2.2.2.2.2.2.2.2.1 u.2.2.2.2.2.2.2.2.2.2.2.2.2.2.2.2.2.2.2.1 u.2.2.2.2.2.2.2.2.2.2.2.2.2.2.2.2.2.2.2.2.1 u.2.2.2.2.2.2.2.2.2.2.2.2.2.2.2.2.2.2.2.2.2.1 u.2.2.2.2.2.2.2.2.2.2.2.2.2.2.2.2.2.2.2.2.2.2.1 u.2.2.2.2.2.2.2.2.2.2.2.2.2.2.2.2.2.2.2.2.2.2.2.1 u.2.2.2.2.2.2.2.2.2.2.2.2.2.2.2.2.2.2.2.2.2.2.2.2.1 u.2.2.2.2.2.2.2.2.2.2.2.2.2.2.2.2.2.2.2.2.2.2.2.2.2.1 u.2.2.2.2.2.2.2.2.2.2.2.2.2.2.2.2.2.2.2.2.2.2.2.2.2.2 := by
  induction m with
  | zero => intro k u hk hk3 hu; exact pk_le L (k + 1) (fun _ => ⟨6, bu_60 hp 5 0 u (by omega) hu⟩) (fun z => absurd z (by omega)) rfl (nI_1 k)
  | succ m ih =>
    intro k u hk hk3 hu
    refine pk_le L (k + 1) (fun _ => ⟨6, bu_60 hp 5 0 u (by omega) hu⟩) (fun z => ?_) rfl (nI_1 k)
    obtain ⟨r, u', h1, h2⟩ := bu_turn hu (xs (nI k).toNatClampNeg) (xs (nI k + 1).toNatClampNeg)
    refine ⟨pk_in k L (by omega), pk_in (k + 1) L z (nI_1 k), h2 _ ?_⟩
    have tt := ih (k + 2) u' (by omega) (by omega) h1
    obtain ⟨w, h, ru, pa, ro, li, a1, a2, a3, a4, a5, a6, a7, a8, a9, a10, a11, a12, a13, a14, a15, a16, a17, a18, a19, a20, a21⟩ := u'
    exact ⟨pk_in k L (by omega), pk_in (k + 1) L z (nI_1 k), h2 _ (nm_r (nI_add k 2) tt)⟩
/-- the statement owed -/
theorem i_vc (xs : Nat → Int32) (L : Nat) (hL : L ≤ 260) : wpL_law (fun r => r = 1) L xs := by
  obtain ⟨u, h1, h2⟩ := bu_init
  refine ⟨21, 1006, by omega, by omega, h2 _ ?_⟩
  have t := bu_18 (post := fun r => r = 1) (xs := xs) (kc := 1 + 21 + 1 + 21) (ks := 27 + 1006 + 27 + 1006) hL rfl L 0 u (by omega) (by omega) h1
  obtain ⟨w, h, ru, pa, ro, li, a1, a2, a3, a4, a5, a6, a7, a8, a9, a10, a11, a12, a13, a14, a15, a16, a17, a18, a19, a20, a21⟩ := u
  exact ⟨by omega, by omega, 21, 1006, by omega, by omega, h2 _ ⟨_, t⟩⟩
end
