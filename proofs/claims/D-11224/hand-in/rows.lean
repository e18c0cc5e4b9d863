section
/-- the place of letter c at state n -/
theorem ca_ix (n c : Nat) : nI n * 4 + nI c = nI (n * 4 + c) := by
  rw [show (4 : Int32) = nI 4 from rfl, pk_mul, nI_add]
/-- next: from state k by letter c, over a source of at most two letters -/
def ca_tr (S : List Nat) (k c : Nat) : Option Nat := match S with
  | [] => none
  | [x] => if k = 0 then (if c = x then some 1 else none) else none
  | x :: y :: _ => if k = 0 then (if c = x then some 1 else if c = y then some 2 else none) else if k = 1 then (if c = y then some 2 else none) else none
def ca_v (o : Option Nat) : Int32 := match o with
  | none => -1
  | some q => nI q
/-- shorter -/
def ca_sh (S : List Nat) (k : Nat) : Nat := match S with
  | x :: y :: _ => if k = 2 then (if x = y then 1 else 0) else 0
  | _ => 0
/-- places -/
def ca_pl (S : List Nat) (k : Nat) : Nat := match S with
  | x :: y :: _ => if k = 1 then (if x = y then 2 else 1) else 1
  | _ => 1
/-- the state holds the source S and the target T -/
def ca_ok (S T : List Nat) (u : St2) : Prop := match u with
  | (s, t, m, w, cn, _, a1, a2, a3, a4, a5, a6, a7, _, _, _) =>
    S.length ≤ 2 ∧ T.length ≤ 2 ∧ (∀ j, j < T.length → T.getD j 0 < 4) ∧ s = nI S.length ∧ t = nI T.length ∧ m = nI (S.length + 1) ∧ w = nI S.length ∧
    (∀ j, j < T.length → a1 j = nI (T.getD j 0)) ∧ (∀ j, j ≤ S.length → a2 j = nI j) ∧ a3 0 = -1 ∧
    (∀ j, j < S.length → a3 (j + 1) = nI (ca_sh S (j + 1))) ∧ (∀ j, j < S.length → a4 (j + 1) = nI j) ∧
    (∀ j c, j ≤ S.length → c < 4 → a5 (j * 4 + c) = ca_v (ca_tr S j c)) ∧ (∀ j, j ≤ S.length → a6 j = 0) ∧
    (¬ cn = 0 → ∀ j, j < S.length → a7 (j + 1) = nI (ca_pl S (j + 1)))
theorem ca_tr_le {S : List Nat} {k c q : Nat} (h : ca_tr S k c = some q) : 1 ≤ q ∧ q ≤ S.length := by
  match S with
  | [] => exact absurd h (by simp [ca_tr])
  | [x] =>
    simp only [ca_tr] at h
    split at h
    · split at h
      · cases h; simp
      · cases h
    · cases h
  | x :: y :: r =>
    simp only [ca_tr] at h
    split at h
    · split at h
      · cases h; simp
      · split at h
        · cases h; simp
        · cases h
    · split at h
      · split at h
        · cases h; simp
        · cases h
      · cases h
theorem ca_new {post : Int32 → St2 → Prop} {n : Nat} {s t w cn sa p0 : Int32} {a1 a2 a3 a4 a5 a6 a7 a8 a9 a10 : Nat → Int32} (hn : n < 65)
    (hp : ∀ b : Nat → Int32, (∀ c, c < 4 → b (n * 4 + c) = -1) → (∀ j, j < n * 4 → b j = a5 j) → post (nI n) (s, t, nI (n + 1), w, 0, sa, a1, upd a2 n p0, a3, a4, b, upd a6 n 0, a7, a8, a9, a10)) :
    wpX_newState post (s, t, nI n, w, cn, sa, a1, a2, a3, a4, a5, a6, a7, a8, a9, a10) p0 := by
  have e : (nI n).toNatClampNeg = n := nI_clamp (by omega)
  unfold wpX_newState
  dsimp only
  rw [e]
  refine nm_r (nI_1 n) ⟨pk_in n 65 hn, nm_e ⟨pk_in n 65 hn, nm_e ?_⟩⟩
  exact pk_loop (fun f i b => wX_newState_31 post (nI n) s t (nI (n + 1)) w cn sa f (nI i) a1 (upd a2 n p0) a3 a4 b (upd a6 n 0) a7 a8 a9 a10)
    (fun i b => (∀ c, c < i → b (n * 4 + c) = -1) ∧ ∀ j, j < n * 4 → b j = a5 j) 4 0 a5 (by omega)
    ⟨fun c hc => absurd hc (by omega), fun j _ => rfl⟩
    (fun f b h => pk_le 4 4 (fun _ => hp b h.1 h.2) (fun z => absurd z (by omega)))
    (fun f i b hi h hw => pk_le 4 i (fun z => absurd z (by omega)) (fun _ => ⟨pk_in (n * 4 + i) 260 (by omega) (ca_ix n i),
      nm_r (e' := upd b (n * 4 + i) (-1)) (by rw [pk_cl (n * 4 + i) (ca_ix n i)]) (nm_r (nI_1 i) (hw _ ⟨fun c hc => by
        by_cases q : c = i
        · rw [q, pk_us]
        · rw [pk_un (by omega)]
          exact h.1 c (by omega), fun j hj => by
        rw [pk_un (by omega)]
        exact h.2 j hj⟩))⟩))
theorem ca_init {post : St2 → Prop} {mc ms : Nat} (h1 : 10 ≤ mc) (h2 : 731 ≤ ms) (hp : ∀ u, ca_ok [] [] u → post u) : wpX_init post mc ms (0, 0, 0, 0, 0, 0) := by
  unfold wpX_init
  dsimp only
  refine ⟨by omega, by omega, by omega, by omega, by omega, by omega, by omega, by omega, by omega, by omega, by omega, by omega, by omega, by omega, by omega, by omega, by omega, by omega, by omega, by omega, ?_⟩
  unfold wpX_reset
  dsimp only
  refine ca_new (n := 0) (by decide) (fun b hb _ => ?_)
  dsimp only
  refine nm_e (hp _ ?_)
  refine ⟨by decide, by decide, fun j hj => absurd hj (by simp), rfl, rfl, rfl, rfl, fun j hj => absurd hj (by simp), fun j hj => ?_, pk_us, fun j hj => absurd hj (by simp), fun j hj => absurd hj (by simp), fun j c hj hc => ?_, fun j hj => ?_, fun z => absurd rfl z⟩
  · have : j = 0 := by simpa using hj
    subst this
    exact pk_us
  · have : j = 0 := by simpa using hj
    subst this
    exact hb c hc
  · have : j = 0 := by simpa using hj
    subst this
    exact pk_us
end
section
theorem ca_grow0 {post : St2 → Prop} {T : List Nat} {c : Nat} {t cn sa : Int32} {a1 a2 a3 a4 a5 a6 a7 a8 a9 a10 : Nat → Int32} (hc : c < 4)
    (h : ca_ok [] T (nI 0, t, nI 1, nI 0, cn, sa, a1, a2, a3, a4, a5, a6, a7, a8, a9, a10)) (hp : ∀ u', ca_ok [c] T u' → post u') :
    wpX_grow post (nI 0, t, nI 1, nI 0, cn, sa, a1, a2, a3, a4, a5, a6, a7, a8, a9, a10) (nI c) := by
  obtain ⟨-, h2, h3, -, ht, -, -, k1, k2, k3, -, -, k5, k6, -⟩ := h
  have e0 : (nI 0).toNatClampNeg = 0 := nI_clamp (by decide)
  have e1 : (nI 1).toNatClampNeg = 1 := nI_clamp (by decide)
  have ec : (nI 0 * 4 + nI c).toNatClampNeg = 0 * 4 + c := pk_cl (0 * 4 + c) (ca_ix 0 c)
  have i0 : vp_in (nI 0 * 4 + nI c) 260 := pk_in (0 * 4 + c) 260 (by omega) (ca_ix 0 c)
  unfold wpX_grow
  dsimp only
  rw [e0]
  refine ⟨pk_in 0 65 (by decide), ca_new (n := 1) (by decide) (fun b hb hb' => ?_)⟩
  dsimp only
  rw [e0, e1]
  refine ⟨pk_in 1 65 (by decide), nm_e ⟨pk_in 0 32 (by decide), nm_e (nm_r (nI_1 0) ⟨2, ?_⟩)⟩⟩
  have hv : b (0 * 4 + c) = -1 := by
    rw [hb' _ (by omega), k5 0 c (by simp) hc]
    rfl
  refine br_f (by decide) (br_f (by decide) ⟨i0, br_f (by rw [ec, hv]; decide) ⟨i0, nm_r (e' := upd b (0 * 4 + c) (nI 1)) (by rw [ec]) ⟨pk_in 0 65 (by decide), nm_r (e' := -1) (by rw [e0]; exact k3) (nm_e (br_f (by decide) (br_t (by decide) ?_)))⟩⟩⟩)
  refine br_f (by decide) ⟨pk_in 1 65 (by decide), nm_r (e' := upd a3 1 0) (by rw [e1]) (hp _ ?_)⟩
  refine ⟨by simp, h2, h3, rfl, ht, rfl, rfl, k1, fun j hj => ?_, ?_, fun j hj => ?_, fun j hj => ?_, fun j d hj hd => ?_, fun j hj => ?_, fun z => absurd rfl z⟩
  · have : j = 0 ∨ j = 1 := by simp at hj; omega
    rcases this with rfl | rfl
    · rw [pk_un (by decide)]
      exact k2 0 (by simp)
    · rw [pk_us, k2 0 (by simp)]
      rfl
  · rw [pk_un (by decide)]
    exact k3
  · have : j = 0 := by simpa using hj
    subst this
    exact pk_us
  · have : j = 0 := by simpa using hj
    subst this
    exact pk_us
  · have : j = 0 ∨ j = 1 := by simp at hj; omega
    rcases this with rfl | rfl
    · by_cases q : d = c
      · subst q
        rw [pk_us]
        simp [ca_tr, ca_v]
      · rw [pk_un (by omega), hb' _ (by omega), k5 0 d (by simp) hd]
        simp [ca_tr, ca_v, q]
    · rw [pk_un (by omega), hb d hd]
      simp [ca_tr, ca_v]
  · have : j = 0 ∨ j = 1 := by simp at hj; omega
    rcases this with rfl | rfl
    · rw [pk_un (by decide)]
      exact k6 0 (by simp)
    · exact pk_us
theorem ca_ok2 {T : List Nat} {x c : Nat} {t cn sa : Int32} {s m w : Int32} {a1 a2 a3 a4 a5 a6 a7 a8 a9 a10 b b' a7' a8' a9' a10' : Nat → Int32} {sa' : Int32}
    (h : ca_ok [x] T (s, t, m, w, cn, sa, a1, a2, a3, a4, a5, a6, a7, a8, a9, a10)) (hb : ∀ c, c < 4 → b (2 * 4 + c) = -1) (hb' : ∀ j, j < 2 * 4 → b j = a5 j) (hc : c < 4)
    (h5 : b' = if c = x then upd b (1 * 4 + c) (nI 2) else upd (upd b (1 * 4 + c) (nI 2)) (0 * 4 + c) (nI 2)) :
    ca_ok [x, c] T (nI 2, t, nI 3, nI 2, 0, sa', a1, upd a2 2 (a2 1 + 1), upd a3 2 (nI (if x = c then 1 else 0)), upd a4 2 (nI 1), b', upd a6 2 0, a7', a8', a9', a10') := by
  obtain ⟨-, h2, h3, -, ht, -, -, k1, k2, k3, k3', k4, k5, k6, -⟩ := h
  refine ⟨by simp, h2, h3, rfl, ht, rfl, rfl, k1, fun j hj => ?_, ?_, fun j hj => ?_, fun j hj => ?_, fun j d hj hd => ?_, fun j hj => ?_, fun z => absurd rfl z⟩
  · by_cases q : j = 2
    · subst q
      rw [pk_us, k2 1 (by simp)]
      rfl
    · rw [pk_un q]
      exact k2 j (by simp at hj ⊢; omega)
  · rw [pk_un (by decide)]
    exact k3
  · have : j = 0 ∨ j = 1 := by simp at hj; omega
    rcases this with rfl | rfl
    · rw [pk_un (by decide), k3' 0 (by simp)]
      simp [ca_sh]
    · rw [pk_us]
      simp [ca_sh]
  · have : j = 0 ∨ j = 1 := by simp at hj; omega
    rcases this with rfl | rfl
    · rw [pk_un (by decide)]
      exact k4 0 (by simp)
    · exact pk_us
  · have : j = 0 ∨ j = 1 ∨ j = 2 := by simp at hj; omega
    by_cases e : c = x
    · rw [h5, if_pos e]
      rcases this with rfl | rfl | rfl
      · rw [pk_un (by omega), hb' _ (by omega), k5 0 d (by simp) hd]
        by_cases q : d = x
        · simp [ca_tr, ca_v, q]
        · simp [ca_tr, ca_v, q, e]
      · by_cases q : d = c
        · rw [q, pk_us]
          simp [ca_tr, ca_v]
        · rw [pk_un (by omega), hb' _ (by omega), k5 1 d (by simp) hd]
          simp [ca_tr, ca_v, q]
      · rw [pk_un (by omega), hb d hd]
        simp [ca_tr, ca_v]
    · rw [h5, if_neg e]
      rcases this with rfl | rfl | rfl
      · by_cases q : d = c
        · rw [q, pk_us]
          simp [ca_tr, ca_v, e]
        · rw [pk_un (by omega), pk_un (by omega), hb' _ (by omega), k5 0 d (by simp) hd]
          simp [ca_tr, ca_v, q]
      · rw [pk_un (by omega)]
        by_cases q : d = c
        · rw [q, pk_us]
          simp [ca_tr, ca_v]
        · rw [pk_un (by omega), hb' _ (by omega), k5 1 d (by simp) hd]
          simp [ca_tr, ca_v, q]
      · rw [pk_un (by omega), pk_un (by omega), hb d hd]
        simp [ca_tr, ca_v]
  · by_cases q : j = 2
    · subst q
      exact pk_us
    · rw [pk_un q]
      exact k6 j (by simp at hj ⊢; omega)
theorem ca_grow1 {post : St2 → Prop} {T : List Nat} {x c : Nat} {t cn sa : Int32} {a1 a2 a3 a4 a5 a6 a7 a8 a9 a10 : Nat → Int32} (hc : c < 4)
    (h : ca_ok [x] T (nI 1, t, nI 2, nI 1, cn, sa, a1, a2, a3, a4, a5, a6, a7, a8, a9, a10)) (hp : ∀ u', ca_ok [x, c] T u' → post u') :
    wpX_grow post (nI 1, t, nI 2, nI 1, cn, sa, a1, a2, a3, a4, a5, a6, a7, a8, a9, a10) (nI c) := by
  have h' := h
  obtain ⟨-, -, -, -, -, -, -, -, k2, k3, k3', -, k5, -, -⟩ := h'
  have e0 : (nI 0).toNatClampNeg = 0 := nI_clamp (by decide)
  have e1 : (nI 1).toNatClampNeg = 1 := nI_clamp (by decide)
  have e2 : (nI 2).toNatClampNeg = 2 := nI_clamp (by decide)
  have ec0 : (nI 0 * 4 + nI c).toNatClampNeg = 0 * 4 + c := pk_cl (0 * 4 + c) (ca_ix 0 c)
  have i0 : vp_in (nI 0 * 4 + nI c) 260 := pk_in (0 * 4 + c) 260 (by omega) (ca_ix 0 c)
  have ec1 : (nI 1 * 4 + nI c).toNatClampNeg = 1 * 4 + c := pk_cl (1 * 4 + c) (ca_ix 1 c)
  have i1 : vp_in (nI 1 * 4 + nI c) 260 := pk_in (1 * 4 + c) 260 (by omega) (ca_ix 1 c)
  unfold wpX_grow
  dsimp only
  rw [e1]
  refine ⟨pk_in 1 65 (by decide), ca_new (n := 2) (by decide) (fun b hb hb' => ?_)⟩
  dsimp only
  rw [e1, e2]
  refine ⟨pk_in 2 65 (by decide), nm_e ⟨pk_in 1 32 (by decide), nm_e (nm_r (nI_1 1) ⟨3, ?_⟩)⟩⟩
  have hv1 : b (1 * 4 + c) = -1 := by
    rw [hb' _ (by omega), k5 1 c (by simp) hc]
    simp [ca_tr, ca_v]
  have hv0 : b (0 * 4 + c) = if c = x then nI 1 else -1 := by
    rw [hb' _ (by omega), k5 0 c (by simp) hc]
    by_cases q : c = x
    · simp [ca_tr, ca_v, q]
    · simp [ca_tr, ca_v, q]
  have hw : upd b (1 * 4 + c) (nI 2) (0 * 4 + c) = if c = x then nI 1 else -1 := by
    rw [pk_un (by omega)]
    exact hv0
  refine br_f (by decide) (br_f (by decide) ⟨i1, br_f (by rw [ec1, hv1]; decide) ⟨i1, nm_r (e' := upd b (1 * 4 + c) (nI 2)) (by rw [ec1]) ⟨pk_in 1 65 (by decide), nm_r (e' := nI 0) (by rw [e1]; exact k3' 0 (by simp)) (nm_e ?_)⟩⟩⟩)
  by_cases q : c = x
  · rw [if_pos q] at hw
    refine br_f (by decide) (br_f (by decide) ⟨i0, br_t (by rw [ec0, hw]; decide) ?_⟩)
    refine br_t (by decide) ⟨i0, nm_r (e' := nI 1) (by rw [ec0, hw]) ⟨pk_in 1 65 (by decide), pk_in 0 65 (by decide), br_t ?_ ⟨pk_in 2 65 (by decide), nm_r (e' := upd a3 2 (nI 1)) (by rw [e2]) (hp _ ?_)⟩⟩⟩
    · rw [e1, e0, pk_un (by decide), pk_un (by decide), k2 1 (by simp), k2 0 (by simp)]
      rfl
    · have r := ca_ok2 (sa' := sa) (a7' := a7) (a8' := a8) (a9' := a9) (a10' := upd a10 1 (nI c)) h hb hb' hc rfl
      rw [if_pos q, if_pos q.symm] at r
      exact r
  · rw [if_neg q] at hw
    refine br_f (by decide) (br_f (by decide) ⟨i0, br_f (by rw [ec0, hw]; decide) ⟨i0, nm_r (e' := upd (upd b (1 * 4 + c) (nI 2)) (0 * 4 + c) (nI 2)) (by rw [ec0]) ⟨pk_in 0 65 (by decide), nm_r (e' := -1) (by rw [e0]; exact k3) (nm_e (br_f (by decide) (br_t (by decide) ?_)))⟩⟩⟩)
    refine br_f (by decide) ⟨pk_in 2 65 (by decide), nm_r (e' := upd a3 2 (nI 0)) (by rw [e2, nI_0]) (hp _ ?_)⟩
    have r := ca_ok2 (sa' := sa) (a7' := a7) (a8' := a8) (a9' := a9) (a10' := upd a10 1 (nI c)) h hb hb' hc rfl
    rw [if_neg q, if_neg (fun z => q z.symm)] at r
    exact r
theorem ca_grow {post : St2 → Prop} {S T : List Nat} {u : St2} {c : Nat} (hc : c < 4) (h : ca_ok S T u) (hS : S.length ≤ 1) (hp : ∀ u', ca_ok (S ++ [c]) T u' → post u') : wpX_grow post u (nI c) := by
  obtain ⟨s, t, m, w, cn, sa, a1, a2, a3, a4, a5, a6, a7, a8, a9, a10⟩ := u
  have h' := h
  obtain ⟨-, -, -, rfl, -, rfl, rfl, -⟩ := h'
  match S, hS with
  | [], _ => exact ca_grow0 hc h hp
  | [x], _ => exact ca_grow1 hc h hp
/-- what a letter p adds to a text -/
def ca_ad (S : List Nat) (p : Int32) : List Nat := if p < 0 then S else if p ≤ 3 then S ++ [p.toNatClampNeg] else S
theorem ca_good {p : Int32} (z : ¬ p < 0) (z' : p ≤ 3) : ∃ c : Nat, c < 4 ∧ p = nI c := by
  obtain ⟨c, hc, e⟩ := nI_of2 (M := 3) (n := 3) (by decide) z z'
  exact ⟨c, by omega, e⟩
theorem ca_src {post : Int32 → St2 → Prop} {S T : List Nat} {u : St2} {p : Int32} (h : ca_ok S T u) (hS : S.length ≤ 1) (hp : ∀ r u', ca_ok (ca_ad S p) T u' → post r u') : wpX_source post u p := by
  obtain ⟨s, t, m, w, cn, sa, a1, a2, a3, a4, a5, a6, a7, a8, a9, a10⟩ := u
  unfold wpX_source
  dsimp only
  unfold wpX_badLetter
  dsimp only
  refine br_c (fun z => ?_) (fun z => br_c (fun z' => ?_) (fun z' => ?_))
  · refine br_f (by decide) (hp _ _ ?_)
    rw [ca_ad, if_pos z]
    exact h
  · obtain ⟨c, hc, rfl⟩ := ca_good z z'
    refine br_t rfl (br_f ?_ (ca_grow hc h hS (fun u' hu' => ?_)))
    · obtain ⟨-, -, -, rfl, -⟩ := h
      intro q
      have := (nI_eq (a := S.length) (b := 32) (by omega) (by decide)).mp q
      omega
    · obtain ⟨s', t', m', w', cn', sa', b1, b2, b3, b4, b5, b6, b7, b8, b9, b10⟩ := u'
      refine hp _ _ ?_
      rw [ca_ad, if_neg z, if_pos z', nI_clamp (by omega)]
      exact hu'
  · refine br_f (by decide) (hp _ _ ?_)
    rw [ca_ad, if_neg z, if_neg z']
    exact h
theorem ca_tgt {post : Int32 → St2 → Prop} {S T : List Nat} {u : St2} {p : Int32} (h : ca_ok S T u) (hT : T.length ≤ 1) (hp : ∀ r u', ca_ok S (ca_ad T p) u' → post r u') : wpX_target post u p := by
  obtain ⟨s, t, m, w, cn, sa, a1, a2, a3, a4, a5, a6, a7, a8, a9, a10⟩ := u
  unfold wpX_target
  dsimp only
  unfold wpX_badLetter
  dsimp only
  refine br_c (fun z => ?_) (fun z => br_c (fun z' => ?_) (fun z' => ?_))
  · refine br_f (by decide) (hp _ _ ?_)
    rw [ca_ad, if_pos z]
    exact h
  · obtain ⟨c, hc, rfl⟩ := ca_good z z'
    obtain ⟨h1, h2, h3, hs, rfl, hm, hw, k1, k⟩ := h
    refine br_t rfl (br_f ?_ ⟨pk_in T.length 24 (by omega), nm_r (e' := upd a1 T.length (nI c)) (by rw [nI_clamp (by omega)]) (nm_r (nI_1 T.length) (hp _ _ ?_))⟩)
    · intro q
      have := (nI_eq (a := T.length) (b := 24) (by omega) (by decide)).mp q
      omega
    · have e : ca_ad T (nI c) = T ++ [c] := by rw [ca_ad, if_neg z, if_pos z', nI_clamp (by omega)]
      have hd : ∀ j, j < T.length → (T ++ [c]).getD j 0 = T.getD j 0 := fun j hj => by
        simp [List.getD, List.getElem?_append_left hj]
      have hl : (T ++ [c]).getD T.length 0 = c := by simp [List.getD]
      rw [e]
      refine ⟨h1, by simp; omega, fun j hj => ?_, hs, by simp, hm, hw, fun j hj => ?_, k⟩
      · by_cases q : j = T.length
        · rw [q, hl]
          exact hc
        · have q' : j < T.length := by simp at hj; omega
          rw [hd j q']
          exact h3 j q'
      · by_cases q : j = T.length
        · rw [q, hl, pk_us]
        · have q' : j < T.length := by simp at hj; omega
          rw [hd j q', pk_un q]
          exact k1 j q'
  · refine br_f (by decide) (hp _ _ ?_)
    rw [ca_ad, if_neg z, if_neg z']
    exact h
end
section
/-- longestFrom: n places are left, state st, place k: the length and the last state -/
def ca_lf (S T : List Nat) : Nat → Nat → Nat → Nat × Nat
  | 0, st, _ => (0, st)
  | n + 1, st, k => match ca_tr S st (T.getD k 0) with
    | none => (0, st)
    | some q => ((ca_lf S T n q (k + 1)).1 + 1, (ca_lf S T n q (k + 1)).2)
theorem ca_lf_le (S T : List Nat) : ∀ n st k, st ≤ S.length → (ca_lf S T n st k).1 ≤ n ∧ (ca_lf S T n st k).2 ≤ S.length ∧ ((ca_lf S T n st k).1 = 0 ∨ 1 ≤ (ca_lf S T n st k).2) ∧ (1 ≤ st → 1 ≤ (ca_lf S T n st k).2) := by
  intro n
  induction n with
  | zero => intro st k h; exact ⟨Nat.le_refl _, h, Or.inl rfl, fun z => z⟩
  | succ n ih =>
    intro st k h
    match e : ca_tr S st (T.getD k 0) with
    | none =>
      simp only [ca_lf, e]
      exact ⟨by omega, h, Or.inl trivial, fun z => z⟩
    | some q =>
      have hq := ca_tr_le e
      obtain ⟨i1, i2, i3, i4⟩ := ih q (k + 1) hq.2
      simp only [ca_lf, e]
      exact ⟨by omega, i2, Or.inr (i4 hq.1), fun _ => i4 hq.1⟩
theorem ca_lfw {post : Int32 → St2 → Prop} {S T : List Nat} {s t m w cn sa : Int32} {a1 a2 a3 a4 a5 a6 a7 a8 a9 a10 : Nat → Int32}
    (h : ca_ok S T (s, t, m, w, cn, sa, a1, a2, a3, a4, a5, a6, a7, a8, a9, a10)) : ∀ n k x st : Nat, k + n = T.length → st ≤ S.length →
    post (nI (x + (ca_lf S T n st k).1)) (s, t, m, w, cn, nI (ca_lf S T n st k).2, a1, a2, a3, a4, a5, a6, a7, a8, a9, a10) →
    wX_longestFrom_9 post s t m w cn a1 a2 a3 a4 a5 a6 a7 a8 a9 a10 (n + 1) (nI x) (nI k) (nI st) := by
  obtain ⟨h1, h2, h3, hs, ht, hm, hw, k1, k2, k3, k3', k4, k5, k6, k7⟩ := h
  intro n
  induction n with
  | zero =>
    intro k x st hk hst hp
    exact pk_le T.length k (fun _ => hp) (fun z => absurd z (by omega)) ht
  | succ n ih =>
    intro k x st hk hst hp
    have hkT : k < T.length := by omega
    have hd := h3 k hkT
    have ek : (nI k).toNatClampNeg = k := nI_clamp (by omega)
    have ei : nI st * 4 + a1 (nI k).toNatClampNeg = nI (st * 4 + T.getD k 0) := by rw [ek, k1 k hkT, ca_ix]
    have ev : a5 (nI st * 4 + a1 (nI k).toNatClampNeg).toNatClampNeg = ca_v (ca_tr S st (T.getD k 0)) := by
      rw [ei, nI_clamp (by omega)]
      exact k5 st _ hst hd
    have i0 : vp_in (nI st * 4 + a1 (nI k).toNatClampNeg) 260 := pk_in (st * 4 + T.getD k 0) 260 (by omega) ei
    have i1 : vp_in (nI k) 24 := pk_in k 24 (by omega)
    refine pk_le T.length k (fun z => absurd z (by omega)) (fun _ => ⟨i1, i0, ?_⟩) ht
    match e : ca_tr S st (T.getD k 0) with
    | none =>
      rw [e] at ev
      simp only [ca_lf, e] at hp
      exact br_t (by rw [ev]; decide) hp
    | some q =>
      rw [e] at ev
      simp only [ca_lf, e] at hp
      have hq := ca_tr_le e
      refine br_f (by rw [ev]; exact nI_pos (n := q) (by omega)) ⟨i1, i0, nm_r (e' := nI q) ev (nm_r (nI_1 x) (nm_r (nI_1 k) (ih (k + 1) (x + 1) q (by omega) hq.2 ?_)))⟩
      rw [show x + 1 + (ca_lf S T n q (k + 1)).1 = x + ((ca_lf S T n q (k + 1)).1 + 1) by omega]
      exact hp
theorem ca_long {post : Int32 → St2 → Prop} {S T : List Nat} {u : St2} {i : Nat} (h : ca_ok S T u) (hi : i ≤ T.length)
    (hp : ∀ u', ca_ok S T u' → u'.2.2.2.2.2.1 = nI (ca_lf S T (T.length - i) 0 i).2 → post (nI (ca_lf S T (T.length - i) 0 i).1) u') : wpX_longestFrom post u (nI i) := by
  obtain ⟨s, t, m, w, cn, sa, a1, a2, a3, a4, a5, a6, a7, a8, a9, a10⟩ := u
  refine ⟨T.length - i + 1, ca_lfw h (T.length - i) i 0 0 (by omega) (by omega) ?_⟩
  rw [Nat.zero_add]
  exact hp _ h rfl
/-- how far piece after piece goes -/
def ca_st (S T : List Nat) (i : Nat) : Nat := if (ca_lf S T (T.length - i) 0 i).1 = 0 then 1 else (ca_lf S T (T.length - i) 0 i).1
def ca_pc (S T : List Nat) : Nat → Nat → Nat
  | 0, _ => 0
  | n + 1, i => if T.length ≤ i then 0 else ca_pc S T n (i + ca_st S T i) + 1
theorem ca_pcw {post : Int32 → St2 → Prop} {S T : List Nat} : ∀ (n i x k : Nat) (s t m w cn sa : Int32) (a1 a2 a3 a4 a5 a6 a7 a8 a9 a10 : Nat → Int32),
    ca_ok S T (s, t, m, w, cn, sa, a1, a2, a3, a4, a5, a6, a7, a8, a9, a10) → i ≤ T.length → T.length ≤ i + n → k + n < 24 → x < 100 - n →
    (∀ u', ca_ok S T u' → post (nI (x + ca_pc S T n i)) u') → wX_pieces_6 post (n + 1) (nI x) (nI i) (nI k) s t m w cn sa a1 a2 a3 a4 a5 a6 a7 a8 a9 a10 := by
  intro n
  induction n with
  | zero =>
    intro i x k s t m w cn sa a1 a2 a3 a4 a5 a6 a7 a8 a9 a10 h hi hT hk hx hp
    have ht : t = nI T.length := h.2.2.2.2.1
    have h2 : T.length ≤ 2 := h.2.1
    exact pk_le 24 k (fun z => absurd z (by omega)) (fun _ => pk_le T.length i (fun _ => hp _ h) (fun z => absurd z (by omega)) ht)
  | succ n ih =>
    intro i x k s t m w cn sa a1 a2 a3 a4 a5 a6 a7 a8 a9 a10 h hi hT hk hx hp
    have ht : t = nI T.length := h.2.2.2.2.1
    have h2 : T.length ≤ 2 := h.2.1
    refine pk_le 24 k (fun z => absurd z (by omega)) (fun _ => pk_le T.length i (fun z => ?_) (fun z => ?_) ht)
    · have := hp _ h
      rw [ca_pc, if_pos z] at this
      exact this
    · obtain ⟨l1, -, -, -⟩ := ca_lf_le S T (T.length - i) 0 i (by omega)
      rw [ca_pc, if_neg (by omega)] at hp
      have F : ∀ d : Nat, ca_st S T i = d → 1 ≤ d → i + d ≤ T.length → ∀ (s t m w cn sa : Int32) (a1 a2 a3 a4 a5 a6 a7 a8 a9 a10 : Nat → Int32),
          ca_ok S T (s, t, m, w, cn, sa, a1, a2, a3, a4, a5, a6, a7, a8, a9, a10) → wX_pieces_6 post (n + 1) (nI (x + 1)) (nI (i + d)) (nI (k + 1)) s t m w cn sa a1 a2 a3 a4 a5 a6 a7 a8 a9 a10 := by
        intro d e d1 d2 s t m w cn sa a1 a2 a3 a4 a5 a6 a7 a8 a9 a10 h
        refine ih (i + d) (x + 1) (k + 1) s t m w cn sa a1 a2 a3 a4 a5 a6 a7 a8 a9 a10 h d2 (by omega) (by omega) (by omega) ?_
        rw [e] at hp
        rw [show x + 1 + ca_pc S T n (i + d) = x + (ca_pc S T n (i + d) + 1) by omega]
        exact hp
      refine ca_long h hi (fun u' h' _ => ?_)
      obtain ⟨s', t', m', w', cn', sa', b1, b2, b3, b4, b5, b6, b7, b8, b9, b10⟩ := u'
      refine pk_eq (ca_lf S T (T.length - i) 0 i).1 0 (fun g => ?_) (fun g => ?_)
      · refine nm_r (nI_1 i) (nm_r (nI_1 x) (nm_r (nI_1 k) (F 1 ?_ (by omega) (by omega) _ _ _ _ _ _ _ _ _ _ _ _ _ _ _ _ h')))
        rw [ca_st, if_pos g]
      · refine nm_r (nI_add i _) (nm_r (nI_1 x) (nm_r (nI_1 k) (F _ ?_ (by omega) (by omega) _ _ _ _ _ _ _ _ _ _ _ _ _ _ _ _ h')))
        rw [ca_st, if_neg g]
theorem ca_pieces {post : Int32 → St2 → Prop} {S T : List Nat} {u : St2} (h : ca_ok S T u) (hp : ∀ u', ca_ok S T u' → post (nI (ca_pc S T 2 0)) u') : wpX_pieces post u := by
  obtain ⟨s, t, m, w, cn, sa, a1, a2, a3, a4, a5, a6, a7, a8, a9, a10⟩ := u
  have h2 : T.length ≤ 2 := h.2.1
  refine ⟨3, ca_pcw 2 0 0 0 s t m w cn sa a1 a2 a3 a4 a5 a6 a7 a8 a9 a10 h (by omega) (by omega) (by omega) (by omega) ?_⟩
  rw [Nat.zero_add]
  exact hp
theorem ca_begin {post : Int32 → St2 → Prop} {u : St2} (hp : post 0 u) : wpX_pieceBegin post u 0 := by
  obtain ⟨s, t, m, w, cn, sa, a1, a2, a3, a4, a5, a6, a7, a8, a9, a10⟩ := u
  exact ⟨1, br_t (by decide) hp⟩
def ca_le (S T : List Nat) : Int32 := if T.length = 0 then -4 else nI (ca_st S T 0)
def ca_fr (S T : List Nat) : Int32 := if T.length = 0 then -4 else if (ca_lf S T (T.length - 0) 0 0).1 = 0 then -4 else nI ((ca_lf S T (T.length - 0) 0 0).2 - 1) - nI (ca_lf S T (T.length - 0) 0 0).1 + 1
theorem ca_plen {post : Int32 → St2 → Prop} {S T : List Nat} {u : St2} (h : ca_ok S T u) (hp : ∀ u', ca_ok S T u' → post (ca_le S T) u') : wpX_pieceLength post u 0 := by
  obtain ⟨s, t, m, w, cn, sa, a1, a2, a3, a4, a5, a6, a7, a8, a9, a10⟩ := u
  have ht : t = nI T.length := h.2.2.2.2.1
  have h2 : T.length ≤ 2 := h.2.1
  unfold wpX_pieceLength
  dsimp only
  refine br_t (by decide) (ca_begin ?_)
  dsimp only
  refine pk_lt 0 T.length (fun z => ?_) (fun z => ?_) rfl ht
  · refine ca_long (i := 0) h (by omega) (fun u' h' _ => ?_)
    obtain ⟨s', t', m', w', cn', sa', b1, b2, b3, b4, b5, b6, b7, b8, b9, b10⟩ := u'
    obtain ⟨l1, -, -, -⟩ := ca_lf_le S T (T.length - 0) 0 0 (by omega)
    have r := hp _ h'
    rw [ca_le, if_neg (by omega), ca_st] at r
    refine pk_eq (ca_lf S T (T.length - 0) 0 0).1 0 (fun g => ?_) (fun g => ?_)
    · rw [if_pos g] at r
      exact r
    · rw [if_neg g] at r
      exact r
  · have r := hp _ h
    rw [ca_le, if_pos (by omega)] at r
    exact r
theorem ca_pfrom {post : Int32 → St2 → Prop} {S T : List Nat} {u : St2} (h : ca_ok S T u) (hp : ∀ u', ca_ok S T u' → post (ca_fr S T) u') : wpX_pieceFrom post u 0 := by
  obtain ⟨s, t, m, w, cn, sa, a1, a2, a3, a4, a5, a6, a7, a8, a9, a10⟩ := u
  have ht : t = nI T.length := h.2.2.2.2.1
  have h2 : T.length ≤ 2 := h.2.1
  have h1 : S.length ≤ 2 := h.1
  unfold wpX_pieceFrom
  dsimp only
  refine br_t (by decide) (ca_begin ?_)
  dsimp only
  refine pk_lt 0 T.length (fun z => ?_) (fun z => ?_) rfl ht
  · refine ca_long (i := 0) h (by omega) (fun u' h' e => ?_)
    obtain ⟨s', t', m', w', cn', sa', b1, b2, b3, b4, b5, b6, b7, b8, b9, b10⟩ := u'
    obtain ⟨l1, l2, l3, -⟩ := ca_lf_le S T (T.length - 0) 0 0 (by omega)
    have r := hp _ h'
    rw [ca_fr, if_neg (by omega)] at r
    dsimp only at e
    subst e
    refine pk_eq (ca_lf S T (T.length - 0) 0 0).1 0 (fun g => ?_) (fun g => ?_)
    · rw [if_pos g] at r
      exact r
    · rw [if_neg g] at r
      have k4 : ∀ j, j < S.length → b4 (j + 1) = nI j := h'.2.2.2.2.2.2.2.2.2.2.2.1
      have v := k4 ((ca_lf S T (T.length - 0) 0 0).2 - 1) (by omega)
      rw [show (ca_lf S T (T.length - 0) 0 0).2 - 1 + 1 = (ca_lf S T (T.length - 0) 0 0).2 by omega] at v
      refine ⟨pk_in (ca_lf S T (T.length - 0) 0 0).2 65 (by omega), ?_⟩
      dsimp only
      rw [nI_clamp (by omega), v]
      exact r
  · have r := hp _ h
    rw [ca_fr, if_pos (by omega)] at r
    exact r
end
section
theorem ca_sh_le (S : List Nat) (k : Nat) : ca_sh S k ≤ S.length := by
  match S with
  | [] => exact Nat.le_refl _
  | [x] => simp [ca_sh]
  | x :: y :: r =>
    simp only [ca_sh, List.length_cons]
    split
    · split <;> omega
    · omega
theorem ca_pl_le (S : List Nat) (k : Nat) : ca_pl S k ≤ 2 := by
  match S with
  | [] => simp [ca_pl]
  | [x] => simp [ca_pl]
  | x :: y :: r =>
    simp only [ca_pl]
    split
    · split <;> omega
    · omega
/-- one size of count's second loop -/
theorem ca_c59 {post : St2 → Prop} {J : Int32 → (Nat → Int32) → (Nat → Int32) → (Nat → Int32) → (Nat → Int32) → (Nat → Int32) → (Nat → Int32) → (Nat → Int32) → (Nat → Int32) → (Nat → Int32) → (Nat → Int32) → Prop}
    {S T : List Nat} {s t m w cn sa : Int32} {a1 a2 a3 a4 a5 a6 a7 a8 a9 a10 b : Nat → Int32}
    (h : ca_ok S T (s, t, m, w, cn, sa, a1, a2, a3, a4, a5, a6, a7, a8, a9, a10)) {i : Nat} (hi : i < S.length)
    (hJ : J (nI i) a1 a2 a3 a4 a5 a6 (upd b (ca_sh S (i + 1)) (b (ca_sh S (i + 1)) + b (i + 1))) a8 a9 a10) :
    ∃ f, wX_count_59 post J (nI (i + 1)) s t m w cn sa f 1 a1 a2 a3 a4 a5 a6 b a8 a9 a10 := by
  obtain ⟨h1, h2, h3, hs, ht, hm, hw, k1, k2, k3, k3', k4, k5, k6, k7⟩ := h
  refine pk_loop (fun f k c => wX_count_59 post J (nI (i + 1)) s t m w cn sa f (nI k) a1 a2 a3 a4 a5 a6 c a8 a9 a10)
    (fun k c => 1 ≤ k ∧ c = if k ≤ i + 1 then b else upd b (ca_sh S (i + 1)) (b (ca_sh S (i + 1)) + b (i + 1))) (S.length + 1) 1 b (by omega) ⟨by omega, by rw [if_pos (by omega)]⟩ ?_ ?_
  · intro f c hc
    obtain ⟨-, hc⟩ := hc
    rw [if_neg (by omega)] at hc
    subst hc
    exact pk_le (S.length + 1) (S.length + 1) (fun _ => nm_r (pk_m1 i) hJ) (fun z => absurd z (by omega)) hm
  · intro f k c hk hc hw
    obtain ⟨hk1, hc⟩ := hc
    have ek : (nI k).toNatClampNeg = k := nI_clamp (by omega)
    have e2 : a2 (nI k).toNatClampNeg = nI k := by
      rw [ek]
      exact k2 k (by omega)
    have e3 : a3 (nI k).toNatClampNeg = nI (ca_sh S k) := by
      have := k3' (k - 1) (by omega)
      rw [show k - 1 + 1 = k by omega] at this
      rw [ek]
      exact this
    have hsh := ca_sh_le S k
    have ik : vp_in (nI k) 65 := pk_in k 65 (by omega)
    have i3 : vp_in (a3 (nI k).toNatClampNeg) 65 := pk_in (ca_sh S k) 65 (by omega) e3
    refine pk_le (S.length + 1) k (fun z => absurd z (by omega)) (fun _ => ⟨ik, pk_eq k (i + 1) (fun z => ?_) (fun z => ?_) e2⟩) hm
    · subst z
      rw [if_pos (by omega)] at hc
      subst hc
      refine ⟨ik, ik, i3, ik, i3, nm_r (e' := upd c (ca_sh S (i + 1)) (c (ca_sh S (i + 1)) + c (i + 1))) (by rw [e3, ek, nI_clamp (by omega)]) (nm_r (nI_1 (i + 1)) (hw _ ⟨by omega, by rw [if_neg (by omega)]⟩))⟩
    · refine nm_r (nI_1 k) (hw _ ⟨by omega, ?_⟩)
      rw [hc]
      by_cases q : k ≤ i + 1
      · rw [if_pos q, if_pos (by omega)]
      · rw [if_neg q, if_neg (by omega)]
theorem ca_count {post : St2 → Prop} {S T : List Nat} {u : St2} (h : ca_ok S T u) (hp : ∀ u', ca_ok S T u' → ¬ u'.2.2.2.2.1 = 0 → post u') : wpX_count post u := by
  obtain ⟨s, t, m, w, cn, sa, a1, a2, a3, a4, a5, a6, a7, a8, a9, a10⟩ := u
  have h' := h
  obtain ⟨h1, h2, h3, hs, ht, hm, hw, k1, k2, k3, k3', k4, k5, k6, k7⟩ := h'
  refine br_c (fun z => ?_) (fun z => hp _ h z)
  have X : ∀ b7 : Nat → Int32, (∀ j, j < S.length → b7 (j + 1) = nI (ca_pl S (j + 1))) → post (s, t, m, w, 1, sa, a1, a2, a3, a4, a5, a6, b7, a8, a9, a10) :=
    fun b7 hb => hp _ ⟨h1, h2, h3, hs, ht, hm, hw, k1, k2, k3, k3', k4, k5, k6, fun _ => hb⟩ (show ¬ (1 : Int32) = 0 by decide)
  refine pk_loop (fun f i b => wX_count_10 post s t m w cn sa f (nI i) a1 a2 a3 a4 a5 a6 b a8 a9 a10)
    (fun i b => ∀ j, j < i → b j = if j = 0 then 0 else 1) (S.length + 1) 0 a7 (by omega) (fun j hj => absurd hj (by omega)) ?_ ?_
  · intro f b hb
    refine pk_le (S.length + 1) (S.length + 1) (fun _ => ?_) (fun z => absurd z (by omega)) hm
    rw [hs]
    rw [hs] at h X
    match S, h1 with
    | [], _ => exact ⟨1, br_t (by decide) (X _ (fun j hj => absurd hj (by simp)))⟩
    | [x], _ =>
      refine ⟨2, br_f (show ¬ nI 1 ≤ 0 by decide) (ca_c59 (i := 0) h (by simp) ?_)⟩
      refine br_t (by decide) (X _ (fun j hj => ?_))
      have : j = 0 := by simpa using hj
      subst this
      rw [pk_un (by simp [ca_sh]), hb 1 (by simp)]
      simp [ca_pl]
      rfl
    | [x, y], _ =>
      refine ⟨3, br_f (show ¬ nI 2 ≤ 0 by decide) (ca_c59 (i := 1) h (by simp) ?_)⟩
      refine br_f (by decide) (ca_c59 (i := 0) h (by simp) ?_)
      refine br_t (by decide) (X _ (fun j hj => ?_))
      have : j = 0 ∨ j = 1 := by simp at hj; omega
      rcases this with rfl | rfl
      · rw [pk_un (by simp [ca_sh])]
        by_cases q : x = y
        · rw [show ca_sh [x, y] (1 + 1) = 1 by simp [ca_sh, q], show ca_pl [x, y] (0 + 1) = 2 by simp [ca_pl, q], show 0 + 1 = 1 from rfl, pk_us, hb 1 (by simp), hb (1 + 1) (by simp)]
          rfl
        · rw [show ca_sh [x, y] (1 + 1) = 0 by simp [ca_sh, q], show ca_pl [x, y] (0 + 1) = 1 by simp [ca_pl, q], show 0 + 1 = 1 from rfl, pk_un (by decide), hb 1 (by simp)]
          rfl
      · rw [pk_un (by simp [ca_sh])]
        have q : ca_sh [x, y] (1 + 1) = 0 ∨ ca_sh [x, y] (1 + 1) = 1 := by
          by_cases q : x = y
          · exact Or.inr (by simp [ca_sh, q])
          · exact Or.inl (by simp [ca_sh, q])
        rw [pk_un (by omega), hb (1 + 1) (by simp)]
        simp [ca_pl]
        rfl
  · intro f i b hi hb hw
    have ei : (nI i).toNatClampNeg = i := nI_clamp (by omega)
    have ii : vp_in (nI i) 65 := pk_in i 65 (by omega)
    have F : ∀ v : Int32, v = (if i = 0 then 0 else 1) → ∀ j, j < i + 1 → upd b i v j = if j = 0 then 0 else 1 := by
      intro v hv j hj
      by_cases q : j = i
      · rw [q, pk_us]
        exact hv
      · rw [pk_un q]
        exact hb j (by omega)
    refine pk_le (S.length + 1) i (fun z => absurd z (by omega)) (fun _ => ⟨ii, br_t (by rw [ei]; exact k6 i (by omega)) (pk_eq i 0 (fun z => ?_) (fun z => ?_))⟩) hm
    · exact ⟨ii, nm_r (e' := upd b i 0) (by rw [ei]) (nm_r (nI_1 i) (hw _ (F 0 (by rw [if_pos z]))))⟩
    · exact ⟨ii, nm_r (e' := upd b i 1) (by rw [ei]) (nm_r (nI_1 i) (hw _ (F 1 (by rw [if_neg z]))))⟩
def ca_oc (S T : List Nat) : Int32 := if T.length = 0 then -1 else match ca_tr S 0 (T.getD 0 0) with
  | none => 0
  | some q => nI (ca_pl S q)
theorem ca_occ {post : Int32 → St2 → Prop} {S T : List Nat} {u : St2} (h : ca_ok S T u) (hp : ∀ u', ca_ok S T u' → post (ca_oc S T) u') : wpX_occurrences post u 0 1 := by
  obtain ⟨s, t, m, w, cn, sa, a1, a2, a3, a4, a5, a6, a7, a8, a9, a10⟩ := u
  have h' := h
  obtain ⟨h1, h2, h3, hs, ht, hm, hw, k1, k2, k3, k3', k4, k5, k6, k7⟩ := h'
  refine br_f (by decide) (br_f (by decide) (pk_le 1 T.length (fun z => br_f (by decide) ⟨2, ?_⟩) (fun z => ?_) rfl ht))
  · have hd := h3 0 (by omega)
    have e0 : (0 : Int32).toNatClampNeg = 0 := by decide
    have ei : (0 : Int32) * 4 + a1 (0 : Int32).toNatClampNeg = nI (0 * 4 + T.getD 0 0) := by
      rw [e0, k1 0 (by omega)]
      exact ca_ix 0 (T.getD 0 0)
    have ev : a5 ((0 : Int32) * 4 + a1 (0 : Int32).toNatClampNeg).toNatClampNeg = ca_v (ca_tr S 0 (T.getD 0 0)) := by
      rw [ei, nI_clamp (by omega)]
      exact k5 0 _ (by omega) hd
    have i0 : vp_in ((0 : Int32) * 4 + a1 (0 : Int32).toNatClampNeg) 260 := pk_in (0 * 4 + T.getD 0 0) 260 (by omega) ei
    refine br_f (by decide) (br_f (by decide) ⟨pk_in 0 24 (by decide), i0, nm_r ev (nm_e (br_t (by decide) ?_))⟩)
    unfold wX_occurrences_69
    refine ca_count h (fun u' h' hc => ?_)
    have r := hp _ h'
    rw [ca_oc, if_neg (by omega)] at r
    obtain ⟨s', t', m', w', cn', sa', b1, b2, b3, b4, b5, b6, b7, b8, b9, b10⟩ := u'
    match e : ca_tr S 0 (T.getD 0 0) with
    | none =>
      rw [e] at r
      exact br_f (by decide) r
    | some q =>
      rw [e] at r
      have hq := ca_tr_le e
      have k7' : ¬ cn' = 0 → ∀ j, j < S.length → b7 (j + 1) = nI (ca_pl S (j + 1)) := h'.2.2.2.2.2.2.2.2.2.2.2.2.2.2
      have v := k7' hc (q - 1) (by omega)
      rw [show q - 1 + 1 = q by omega] at v
      refine br_t (nI_pos' (n := q) (by omega)) ⟨pk_in q 65 (by omega), ?_⟩
      show post (b7 (nI q).toNatClampNeg) _
      rw [nI_clamp (by omega), v]
      exact r
  · have r := hp _ h
    rw [ca_oc, if_pos (by omega)] at r
    exact r
def ca_wd (S : List Nat) : Int32 := match S with
  | [] => 0
  | [_] => 1
  | x :: y :: _ => if x = y then 2 else 3
theorem ca_w4 {post : Int32 → Prop} {S T : List Nat} {s t m w cn sa v : Int32} {a1 a2 a3 a4 a5 a6 a7 a8 a9 a10 : Nat → Int32} {n k : Nat}
    (h : ca_ok S T (s, t, m, w, cn, sa, a1, a2, a3, a4, a5, a6, a7, a8, a9, a10)) (hk : k < S.length)
    (hp : wX_words_4 post s t m w cn sa a1 a2 a3 a4 a5 a6 a7 a8 a9 a10 n (v + nI (k + 1) - nI (ca_sh S (k + 1))) (nI (k + 1 + 1))) :
    wX_words_4 post s t m w cn sa a1 a2 a3 a4 a5 a6 a7 a8 a9 a10 (n + 1) v (nI (k + 1)) := by
  obtain ⟨h1, h2, h3, hs, ht, hm, hw, k1, k2, k3, k3', k4, k5, k6, k7⟩ := h
  have hsh := ca_sh_le S (k + 1)
  have ek : (nI (k + 1)).toNatClampNeg = k + 1 := nI_clamp (by omega)
  have e3 : a3 (nI (k + 1)).toNatClampNeg = nI (ca_sh S (k + 1)) := by
    rw [ek]
    exact k3' k hk
  have ik : vp_in (nI (k + 1)) 65 := pk_in (k + 1) 65 (by omega)
  exact pk_le (S.length + 1) (k + 1) (fun z => absurd z (by omega)) (fun _ => ⟨ik, ik, pk_in (ca_sh S (k + 1)) 65 (by omega) e3, nm_r (by rw [e3, ek, nI_clamp (by omega), k2 _ hsh, k2 (k + 1) (by omega)]) (nm_r (nI_1 (k + 1)) hp)⟩) hm
theorem ca_words {post : Int32 → Prop} {S T : List Nat} {u : St2} (h : ca_ok S T u) (hp : post (ca_wd S)) : wpX_words post u := by
  obtain ⟨s, t, m, w, cn, sa, a1, a2, a3, a4, a5, a6, a7, a8, a9, a10⟩ := u
  have h1 : S.length ≤ 2 := h.1
  have hm : m = nI (S.length + 1) := h.2.2.2.2.2.1
  subst hm
  match S, h1 with
  | [], _ => exact ⟨1, br_t (show nI 1 ≤ nI 1 by decide) hp⟩
  | [x], _ =>
    refine ⟨2, ca_w4 (k := 0) (n := 1) h (by simp) (br_t (show nI 2 ≤ nI 2 by decide) ?_)⟩
    rw [show ca_sh [x] (0 + 1) = 0 from rfl]
    exact hp
  | [x, y], _ =>
    refine ⟨3, ca_w4 (k := 0) (n := 2) h (by simp) (ca_w4 (k := 1) (n := 1) h (by simp) (br_t (show nI 3 ≤ nI 3 by decide) ?_))⟩
    by_cases q : x = y
    · rw [show ca_sh [x, y] (0 + 1) = 0 by simp [ca_sh], show ca_sh [x, y] (1 + 1) = 1 by simp [ca_sh, q]]
      rw [show ca_wd [x, y] = 2 by simp [ca_wd, q]] at hp
      exact hp
    · rw [show ca_sh [x, y] (0 + 1) = 0 by simp [ca_sh], show ca_sh [x, y] (1 + 1) = 0 by simp [ca_sh, q]]
      rw [show ca_wd [x, y] = 3 by simp [ca_wd, q]] at hp
      exact hp
def ca_rp (S : List Nat) : Int32 := match S with
  | x :: y :: _ => if x = y then 1 else 0
  | _ => 0
theorem ca_r8 {post : Int32 → St2 → Prop} {S T : List Nat} {s t m w cn sa : Int32} {a1 a2 a3 a4 a5 a6 a7 a8 a9 a10 : Nat → Int32} {n k v : Nat}
    (h : ca_ok S T (s, t, m, w, cn, sa, a1, a2, a3, a4, a5, a6, a7, a8, a9, a10)) (hc : ¬ cn = 0) (hk : k < S.length) (hv : v ≤ 2)
    (hp : wX_longestRepeat_8 post s t m w cn sa a1 a2 a3 a4 a5 a6 a7 a8 a9 a10 n (nI (if ca_pl S (k + 1) ≤ 1 then v else if k + 1 ≤ v then v else k + 1)) (nI (k + 1 + 1))) :
    wX_longestRepeat_8 post s t m w cn sa a1 a2 a3 a4 a5 a6 a7 a8 a9 a10 (n + 1) (nI v) (nI (k + 1)) := by
  obtain ⟨h1, h2, h3, hs, ht, hm, hw, k1, k2, k3, k3', k4, k5, k6, k7⟩ := h
  have hpl := ca_pl_le S (k + 1)
  have ek : (nI (k + 1)).toNatClampNeg = k + 1 := nI_clamp (by omega)
  have e7 : a7 (nI (k + 1)).toNatClampNeg = nI (ca_pl S (k + 1)) := by
    rw [ek]
    exact k7 hc k hk
  have e2 : a2 (nI (k + 1)).toNatClampNeg = nI (k + 1) := by
    rw [ek]
    exact k2 (k + 1) (by omega)
  have ik : vp_in (nI (k + 1)) 65 := pk_in (k + 1) 65 (by omega)
  refine pk_le (S.length + 1) (k + 1) (fun z => absurd z (by omega)) (fun _ => ⟨ik, pk_le (ca_pl S (k + 1)) 1 (fun z => ?_) (fun z => ⟨ik, pk_le (k + 1) v (fun z' => ?_) (fun z' => ⟨ik, ?_⟩) e2⟩) e7⟩) hm
  · rw [if_pos z] at hp
    exact nm_r (nI_1 (k + 1)) hp
  · rw [if_neg (by omega), if_pos z'] at hp
    exact nm_r (nI_1 (k + 1)) hp
  · rw [if_neg (by omega), if_neg (by omega)] at hp
    exact nm_r e2 (nm_r (nI_1 (k + 1)) hp)
theorem ca_rep {post : Int32 → St2 → Prop} {S T : List Nat} {u : St2} (h : ca_ok S T u) (hp : ∀ u', post (ca_rp S) u') : wpX_longestRepeat post u := by
  obtain ⟨s, t, m, w, cn, sa, a1, a2, a3, a4, a5, a6, a7, a8, a9, a10⟩ := u
  unfold wpX_longestRepeat
  dsimp only
  refine ca_count h (fun u' h' hc => ?_)
  obtain ⟨s', t', m', w', cn', sa', b1, b2, b3, b4, b5, b6, b7, b8, b9, b10⟩ := u'
  have h1 : S.length ≤ 2 := h'.1
  have hm : m' = nI (S.length + 1) := h'.2.2.2.2.2.1
  subst hm
  match S, h1 with
  | [], _ => exact ⟨1, br_t (show nI 1 ≤ nI 1 by decide) (hp _)⟩
  | [x], _ => exact ⟨2, ca_r8 (k := 0) (v := 0) (n := 1) h' hc (by simp) (by omega) (br_t (show nI 2 ≤ nI 2 by decide) (hp _))⟩
  | [x, y], _ =>
    by_cases q : x = y
    · have f1 : ca_pl [x, y] (0 + 1) = 2 := by simp [ca_pl, q]
      have f2 : ca_pl [x, y] (1 + 1) = 1 := by simp [ca_pl]
      refine ⟨3, ca_r8 (k := 0) (v := 0) (n := 2) h' hc (by simp) (by omega) ?_⟩
      rw [f1, if_neg (by decide), if_neg (by decide)]
      refine ca_r8 (k := 1) (v := 1) (n := 1) h' hc (by simp) (by omega) (br_t (show nI 3 ≤ nI 3 by decide) ?_)
      rw [f2, if_pos (by decide)]
      have r := hp (s', t', nI 3, w', cn', sa', b1, b2, b3, b4, b5, b6, b7, b8, b9, b10)
      rw [show ca_rp [x, y] = 1 by simp [ca_rp, q]] at r
      exact r
    · have f1 : ca_pl [x, y] (0 + 1) = 1 := by simp [ca_pl, q]
      have f2 : ca_pl [x, y] (1 + 1) = 1 := by simp [ca_pl]
      refine ⟨3, ca_r8 (k := 0) (v := 0) (n := 2) h' hc (by simp) (by omega) ?_⟩
      rw [f1, if_pos (by decide)]
      refine ca_r8 (k := 1) (v := 0) (n := 1) h' hc (by simp) (by omega) (br_t (show nI 3 ≤ nI 3 by decide) ?_)
      rw [f2, if_pos (by decide)]
      have r := hp (s', t', nI 3, w', cn', sa', b1, b2, b3, b4, b5, b6, b7, b8, b9, b10)
      rw [show ca_rp [x, y] = 0 by simp [ca_rp, q]] at r
      exact r
end
section
/-- a letter's code: itself, or 4 for a bad one -/
def ca_cd (p : Int32) : Nat := if p < 0 then 4 else if p ≤ 3 then p.toNatClampNeg else 4
theorem ca_cd_or (p : Int32) : (ca_cd p = 4 ∧ (p < 0 ∨ ¬ p ≤ 3)) ∨ (∃ c : Nat, c < 4 ∧ p = nI c ∧ ca_cd p = c ∧ ¬ p < 0 ∧ p ≤ 3) := by
  by_cases z : p < 0
  · exact Or.inl ⟨by rw [ca_cd, if_pos z], Or.inl z⟩
  · by_cases z' : p ≤ 3
    · obtain ⟨c, hc, e⟩ := ca_good z z'
      exact Or.inr ⟨c, hc, e, by rw [ca_cd, if_neg z, if_pos z', e, nI_clamp (by omega)], z, z'⟩
    · exact Or.inl ⟨by rw [ca_cd, if_neg z, if_neg z'], Or.inr z'⟩
theorem ca_cd_le (p : Int32) : ca_cd p < 5 := by
  rcases ca_cd_or p with ⟨e, -⟩ | ⟨c, hc, -, e, -⟩
  · omega
  · omega
theorem ca_cd_eq {p q : Int32} (h : ca_cd p ≠ 4) : p = q ↔ ca_cd p = ca_cd q := by
  constructor
  · intro e
    rw [e]
  · intro e
    rcases ca_cd_or p with ⟨z, -⟩ | ⟨c, hc, e1, e2, -⟩
    · exact absurd z h
    · rcases ca_cd_or q with ⟨z, -⟩ | ⟨d, hd, e3, e4, -⟩
      · omega
      · rw [e1, e3, ← e2, ← e4, e]
theorem ca_cd_ad (S : List Nat) (p : Int32) : ca_ad S p = S ++ (if ca_cd p = 4 then [] else [ca_cd p]) := by
  unfold ca_ad ca_cd
  by_cases z : p < 0
  · simp [z]
  · by_cases z' : p ≤ 3
    · obtain ⟨c, hc, rfl⟩ := ca_good z z'
      rw [if_neg z, if_pos z', if_neg z, if_pos z', nI_clamp (by omega), if_neg (by omega)]
    · simp [z, z']
def ca_f (a : Nat) : Int32 := if a = 4 then 0 else 1
theorem ca_f_or (a : Nat) : (a = 4 ∧ ca_f a = 0) ∨ (a ≠ 4 ∧ ca_f a = 1) := by
  by_cases h : a = 4
  · exact Or.inl ⟨h, if_pos h⟩
  · exact Or.inr ⟨h, if_neg h⟩
theorem ca_f_ne {a : Nat} (h : ¬ ca_f a = 0) : a ≠ 4 := fun z => h (if_pos z)
theorem ca_f_2 {a b : Nat} (h : ca_f a + ca_f b = 2) : a ≠ 4 ∧ b ≠ 4 := by
  rcases ca_f_or a with ⟨-, ea⟩ | ⟨ha, ea⟩
  · rcases ca_f_or b with ⟨-, eb⟩ | ⟨hb, eb⟩
    · rw [ea, eb] at h
      exact absurd h (by decide)
    · rw [ea, eb] at h
      exact absurd h (by decide)
  · rcases ca_f_or b with ⟨-, eb⟩ | ⟨hb, eb⟩
    · rw [ea, eb] at h
      exact absurd h (by decide)
    · exact ⟨ha, hb⟩
theorem ca_f_012 (a b : Nat) : ca_f a + ca_f b = 0 ∨ ca_f a + ca_f b = 1 ∨ ca_f a + ca_f b = 2 := by
  rcases ca_f_or a with ⟨-, ea⟩ | ⟨-, ea⟩ <;> rcases ca_f_or b with ⟨-, eb⟩ | ⟨-, eb⟩ <;> rw [ea, eb] <;> decide
def ca_cx (c e : Nat) : Nat := if c = 4 then e else c
def ca_h (a x : Nat) : Int32 := if a = 4 then 0 else if a = x then 1 else 0
def ca_18 (a b c e : Nat) : Int32 := ca_h a (ca_cx c e) + ca_h b (ca_cx c e)
def ca_19 (a b c e : Nat) : Int32 := if ca_f a + ca_f b = 2 then (if ca_f c + ca_f e = 2 then (if a = c then (if b = e then 1 else 0) else 0) else 0) else 0
def ca_20 (a b c e : Nat) : Int32 := if ca_18 a b c e = 0 then -4 else if ca_19 a b c e = 0 then (if a = 4 then 0 else if a = ca_cx c e then 0 else 1) else 0
theorem ca_flK {K : Int32 → Prop} {p : Int32} (h : K (ca_f (ca_cd p))) : (p < 0 → K 0) ∧ (¬ p < 0 → ((3 < p → K 0) ∧ (¬ 3 < p → K 1))) := by
  refine ⟨fun z => ?_, fun z => ⟨fun z' => ?_, fun z' => ?_⟩⟩
  · rw [ca_cd, if_pos z] at h
    exact h
  · rw [ca_cd, if_neg z, if_neg (Int32.not_le.mpr z')] at h
    exact h
  · rcases ca_cd_or p with ⟨-, q⟩ | ⟨c, hc, -, e, -, -⟩
    · rcases q with q | q
      · exact absurd q z
      · exact absurd (Int32.not_lt.mp z') q
    · rw [e, ca_f, if_neg (by omega)] at h
      exact h
theorem ca_01K {K : Int32 → Prop} {a : Nat} (h : K (ca_f a)) : (ca_f a = 0 → K 0) ∧ (¬ ca_f a = 0 → K 1) := by
  refine ⟨fun z => ?_, fun z => ?_⟩
  · rw [z] at h
    exact h
  · rw [ca_f, if_neg (ca_f_ne z)] at h
    exact h
theorem ca_hK {K : Int32 → Prop} {p q : Int32} (h : K (ca_h (ca_cd p) (ca_cd q))) : (ca_f (ca_cd p) = 0 → K 0) ∧ (¬ ca_f (ca_cd p) = 0 → ((p = q → K 1) ∧ (¬ p = q → K 0))) := by
  refine ⟨fun z => ?_, fun z => ⟨fun z' => ?_, fun z' => ?_⟩⟩
  · rcases ca_f_or (ca_cd p) with ⟨e, -⟩ | ⟨-, e⟩
    · rw [ca_h, if_pos e] at h
      exact h
    · rw [z] at e
      exact absurd e (by decide)
  · rw [ca_h, if_neg (ca_f_ne z), if_pos ((ca_cd_eq (ca_f_ne z)).mp z')] at h
    exact h
  · rw [ca_h, if_neg (ca_f_ne z), if_neg (fun y => z' ((ca_cd_eq (ca_f_ne z)).mpr y))] at h
    exact h
theorem ca_19K {K : Int32 → Prop} {p0 p1 p2 p3 : Int32} (h : K (ca_19 (ca_cd p0) (ca_cd p1) (ca_cd p2) (ca_cd p3))) :
    (ca_f (ca_cd p0) + ca_f (ca_cd p1) = 2 → ((ca_f (ca_cd p2) + ca_f (ca_cd p3) = 2 → ((p0 = p2 → ((p1 = p3 → K 1) ∧ (¬ p1 = p3 → K 0))) ∧ (¬ p0 = p2 → K 0))) ∧ (¬ ca_f (ca_cd p2) + ca_f (ca_cd p3) = 2 → K 0))) ∧ (¬ ca_f (ca_cd p0) + ca_f (ca_cd p1) = 2 → K 0) := by
  refine br_c (fun z => ?_) (fun z => ?_)
  · have n := ca_f_2 z
    refine br_c (fun y => ?_) (fun y => ?_)
    · refine br_c (fun x => ?_) (fun x => ?_)
      · refine br_c (fun w => ?_) (fun w => ?_)
        · rw [ca_19, if_pos z, if_pos y, if_pos ((ca_cd_eq n.1).mp x), if_pos ((ca_cd_eq n.2).mp w)] at h
          exact h
        · rw [ca_19, if_pos z, if_pos y, if_pos ((ca_cd_eq n.1).mp x), if_neg (fun v => w ((ca_cd_eq n.2).mpr v))] at h
          exact h
      · rw [ca_19, if_pos z, if_pos y, if_neg (fun v => x ((ca_cd_eq n.1).mpr v))] at h
        exact h
    · rw [ca_19, if_pos z, if_neg y] at h
      exact h
  · rw [ca_19, if_neg z] at h
    exact h
theorem ca_20K {K : Int32 → Prop} {p0 q : Int32} {b c e : Nat} (hq : ca_cd q = ca_cx c e) (h : K (ca_20 (ca_cd p0) b c e)) :
    (ca_18 (ca_cd p0) b c e = 0 → K (-4)) ∧ (¬ ca_18 (ca_cd p0) b c e = 0 → ((ca_19 (ca_cd p0) b c e = 0 → ((ca_f (ca_cd p0) = 0 → K 0) ∧ (¬ ca_f (ca_cd p0) = 0 → ((p0 = q → K 0) ∧ (¬ p0 = q → K 1))))) ∧ (¬ ca_19 (ca_cd p0) b c e = 0 → K 0))) := by
  refine br_c (fun z => ?_) (fun z => br_c (fun y => ?_) (fun y => ?_))
  · rw [ca_20, if_pos z] at h
    exact h
  · rw [ca_20, if_neg z, if_pos y] at h
    refine br_c (fun x => ?_) (fun x => ?_)
    · rcases ca_f_or (ca_cd p0) with ⟨w, -⟩ | ⟨-, w⟩
      · rw [if_pos w] at h
        exact h
      · rw [x] at w
        exact absurd w (by decide)
    · rw [if_neg (ca_f_ne x)] at h
      refine br_c (fun w => ?_) (fun w => ?_)
      · rw [if_pos (by rw [← hq]; exact (ca_cd_eq (ca_f_ne x)).mp w)] at h
        exact h
      · rw [if_neg (by rw [← hq]; exact fun v => w ((ca_cd_eq (ca_f_ne x)).mpr v))] at h
        exact h
  · rw [ca_20, if_neg z, if_neg y] at h
    exact h
theorem ca_l416 {mc ms kc ks : Nat} {x0 x1 x10 x15 z0 z1 : Int32} (hz : z1 = z0) {d : Prop} [Decidable d] (hd : x15 = 2 → (x0 = x1 ↔ d))
    (h10 : x10 = if x15 = 2 then (if d then 1 else 0) else 0) : wL_lawOf_416 (fun r _ => r = 1) mc ms x0 x1 x10 x15 z0 z1 kc ks := by
  refine br_t hz (br_c (fun z => br_c (fun y => ?_) (fun y => ?_)) (fun z => ?_))
  · rw [if_pos z, if_pos ((hd z).mp y)] at h10
    exact br_t h10 rfl
  · rw [if_pos z, if_neg (fun v => y ((hd z).mpr v))] at h10
    exact br_t h10 rfl
  · rw [if_neg z] at h10
    exact br_t h10 rfl
theorem ca_l382 {mc ms kc ks : Nat} {x0 x1 x9 x10 x15 z0 z1 : Int32} (hz : z1 = z0) {d : Prop} [Decidable d] (h15 : x15 = 0 ∨ x15 = 1 ∨ x15 = 2) (hd : x15 = 2 → (x0 = x1 ↔ d))
    (h9 : x9 = if x15 = 0 then 0 else if x15 = 1 then 1 else if d then 2 else 3)
    (h10 : x10 = if x15 = 2 then (if d then 1 else 0) else 0) : wL_lawOf_382 (fun r _ => r = 1) mc ms x0 x1 x9 x10 x15 z0 z1 kc ks := by
  refine br_t hz (br_c (fun z => ?_) (fun z => br_c (fun y => ?_) (fun y => ?_)))
  · rw [if_pos z] at h9
    exact ca_l416 h9 hd h10
  · rw [if_neg z, if_pos y] at h9
    exact ca_l416 h9 hd h10
  · rw [if_neg z, if_neg y] at h9
    have h2 : x15 = 2 := by
      rcases h15 with q | q | q
      · exact absurd q z
      · exact absurd q y
      · exact q
    refine br_c (fun x => ?_) (fun x => ?_)
    · rw [if_pos ((hd h2).mp x)] at h9
      exact ca_l416 h9 hd h10
    · rw [if_neg (fun v => x ((hd h2).mpr v))] at h9
      exact ca_l416 h9 hd h10
theorem ca_l300 {mc ms kc ks : Nat} {x0 x1 x5 x6 x7 x8 x9 x10 x15 x16 x18 x19 x20 : Int32} {d : Prop} [Decidable d] (h15 : x15 = 0 ∨ x15 = 1 ∨ x15 = 2) (hd : x15 = 2 → (x0 = x1 ↔ d))
    (h5 : x5 = if x16 = 0 then 0 else if x19 = 0 then x16 else 1) (h6 : x6 = if x16 = 0 then -4 else if x19 = 0 then 1 else 2)
    (h7 : x7 = if x16 = 0 then -4 else x20) (h8 : x8 = if x16 = 0 then -1 else x18)
    (h9 : x9 = if x15 = 0 then 0 else if x15 = 1 then 1 else if d then 2 else 3)
    (h10 : x10 = if x15 = 2 then (if d then 1 else 0) else 0) : wL_lawOf_300 (fun r _ => r = 1) mc ms x0 x1 x5 x6 x7 x8 x9 x10 x15 x16 x18 x19 x20 kc ks := by
  have A : ∀ z0 z1 : Int32, z1 = z0 → wL_lawOf_366 (fun r _ => r = 1) mc ms x0 x1 x8 x9 x10 x15 x16 x18 z0 z1 kc ks := by
    intro z0 z1 hz
    refine br_t hz (br_c (fun z => ?_) (fun z => ?_))
    · rw [if_pos z] at h8
      exact ca_l382 h8 h15 hd h9 h10
    · rw [if_neg z] at h8
      exact ca_l382 h8 h15 hd h9 h10
  have B : ∀ z0 z1 : Int32, z1 = z0 → wL_lawOf_349 (fun r _ => r = 1) mc ms x0 x1 x7 x8 x9 x10 x15 x16 x18 x20 z0 z1 kc ks := by
    intro z0 z1 hz
    refine br_t hz (br_c (fun z => ?_) (fun z => ?_))
    · rw [if_pos z] at h7
      exact A _ _ h7
    · rw [if_neg z] at h7
      exact A _ _ h7
  have C : ∀ z0 z1 : Int32, z1 = z0 → wL_lawOf_324 (fun r _ => r = 1) mc ms x0 x1 x6 x7 x8 x9 x10 x15 x16 x18 x19 x20 z0 z1 kc ks := by
    intro z0 z1 hz
    refine br_t hz (br_c (fun z => ?_) (fun z => br_c (fun y => ?_) (fun y => ?_)))
    · rw [if_pos z] at h6
      exact B _ _ h6
    · rw [if_neg z, if_pos y] at h6
      exact B _ _ h6
    · rw [if_neg z, if_neg y] at h6
      exact B _ _ h6
  refine br_c (fun z => ?_) (fun z => br_c (fun y => ?_) (fun y => ?_))
  · rw [if_pos z] at h5
    exact C _ _ h5
  · rw [if_neg z, if_pos y] at h5
    exact C _ _ h5
  · rw [if_neg z, if_neg y] at h5
    exact C _ _ h5
theorem ca_l145 {mc ms kc ks : Nat} {p0 p1 p2 p3 x5 x6 x7 x8 x9 x10 : Int32} {a b c e : Nat} (ea : ca_cd p0 = a) (eb : ca_cd p1 = b) (ec : ca_cd p2 = c) (ee : ca_cd p3 = e)
    (h : wL_lawOf_300 (fun r _ => r = 1) mc ms p0 p1 x5 x6 x7 x8 x9 x10 (ca_f a + ca_f b) (ca_f c + ca_f e) (ca_18 a b c e) (ca_19 a b c e) (ca_20 a b c e) kc ks) :
    wL_lawOf_145 (fun r _ => r = 1) mc ms p0 p1 p2 p3 x5 x6 x7 x8 x9 x10 (ca_f a) (ca_f b) (ca_f c) (ca_f e) kc ks := by
  subst ea eb ec ee
  refine ca_01K (K := fun z => wL_lawOf_157 (fun r _ => r = 1) mc ms p0 p1 p2 p3 x5 x6 x7 x8 x9 x10 (ca_f (ca_cd p0)) (ca_f (ca_cd p1)) (ca_f (ca_cd p2)) (ca_f (ca_cd p3)) z kc ks) ?_
  refine ca_01K (K := fun z => wL_lawOf_167 (fun r _ => r = 1) mc ms p0 p1 p2 p3 x5 x6 x7 x8 x9 x10 (ca_f (ca_cd p0)) (ca_f (ca_cd p1)) (ca_f (ca_cd p2)) (ca_f (ca_cd p3)) z (ca_f (ca_cd p0)) kc ks) ?_
  refine nm_e ?_
  refine ca_01K (K := fun z => wL_lawOf_180 (fun r _ => r = 1) mc ms p0 p1 p2 p3 x5 x6 x7 x8 x9 x10 (ca_f (ca_cd p0)) (ca_f (ca_cd p1)) (ca_f (ca_cd p2)) (ca_f (ca_cd p3)) (ca_f (ca_cd p0) + ca_f (ca_cd p1)) z kc ks) ?_
  refine ca_01K (K := fun z => wL_lawOf_190 (fun r _ => r = 1) mc ms p0 p1 p2 p3 x5 x6 x7 x8 x9 x10 (ca_f (ca_cd p0)) (ca_f (ca_cd p1)) (ca_f (ca_cd p2)) (ca_f (ca_cd p0) + ca_f (ca_cd p1)) z (ca_f (ca_cd p2)) kc ks) ?_
  refine nm_e ?_
  have M : ∀ q : Int32, ca_cd q = ca_cx (ca_cd p2) (ca_cd p3) →
      wL_lawOf_203 (fun r _ => r = 1) mc ms p0 p1 p2 p3 x5 x6 x7 x8 x9 x10 (ca_f (ca_cd p0)) (ca_f (ca_cd p1)) (ca_f (ca_cd p0) + ca_f (ca_cd p1)) (ca_f (ca_cd p2) + ca_f (ca_cd p3)) q kc ks := by
    intro q hq
    refine ca_hK (p := p0) (q := q) (K := fun z => wL_lawOf_221 (fun r _ => r = 1) mc ms p0 p1 p2 p3 x5 x6 x7 x8 x9 x10 (ca_f (ca_cd p0)) (ca_f (ca_cd p1)) (ca_f (ca_cd p0) + ca_f (ca_cd p1)) (ca_f (ca_cd p2) + ca_f (ca_cd p3)) q z kc ks) ?_
    refine ca_hK (p := p1) (q := q) (K := fun z => wL_lawOf_237 (fun r _ => r = 1) mc ms p0 p1 p2 p3 x5 x6 x7 x8 x9 x10 (ca_f (ca_cd p0)) (ca_f (ca_cd p0) + ca_f (ca_cd p1)) (ca_f (ca_cd p2) + ca_f (ca_cd p3)) q z (ca_h (ca_cd p0) (ca_cd q)) kc ks) ?_
    rw [hq]
    refine nm_r (e' := ca_18 (ca_cd p0) (ca_cd p1) (ca_cd p2) (ca_cd p3)) rfl ?_
    refine ca_19K (K := fun z => wL_lawOf_267 (fun r _ => r = 1) mc ms p0 p1 x5 x6 x7 x8 x9 x10 (ca_f (ca_cd p0)) (ca_f (ca_cd p0) + ca_f (ca_cd p1)) (ca_f (ca_cd p2) + ca_f (ca_cd p3)) q (ca_18 (ca_cd p0) (ca_cd p1) (ca_cd p2) (ca_cd p3)) z kc ks) ?_
    exact ca_20K (p0 := p0) (q := q) hq (K := fun z => wL_lawOf_300 (fun r _ => r = 1) mc ms p0 p1 x5 x6 x7 x8 x9 x10 (ca_f (ca_cd p0) + ca_f (ca_cd p1)) (ca_f (ca_cd p2) + ca_f (ca_cd p3)) (ca_18 (ca_cd p0) (ca_cd p1) (ca_cd p2) (ca_cd p3)) (ca_19 (ca_cd p0) (ca_cd p1) (ca_cd p2) (ca_cd p3)) z kc ks) h
  refine br_c (fun z => M p3 ?_) (fun z => M p2 ?_)
  · rcases ca_f_or (ca_cd p2) with ⟨w, -⟩ | ⟨-, w⟩
    · rw [ca_cx, if_pos w]
    · rw [z] at w
      exact absurd w (by decide)
  · rw [ca_cx, if_neg (ca_f_ne z)]
/-- the text of two codes -/
def ca_tx (a b : Nat) : List Nat := (if a = 4 then [] else [a]) ++ (if b = 4 then [] else [b])
def ca_all (a b c e : Nat) : Bool :=
  decide (nI (ca_pc (ca_tx a b) (ca_tx c e) 2 0) = (if ca_f c + ca_f e = 0 then 0 else if ca_19 a b c e = 0 then ca_f c + ca_f e else 1)) &&
  (decide (ca_le (ca_tx a b) (ca_tx c e) = (if ca_f c + ca_f e = 0 then -4 else if ca_19 a b c e = 0 then 1 else 2)) &&
  (decide (ca_fr (ca_tx a b) (ca_tx c e) = (if ca_f c + ca_f e = 0 then -4 else ca_20 a b c e)) &&
  (decide (ca_oc (ca_tx a b) (ca_tx c e) = (if ca_f c + ca_f e = 0 then -1 else ca_18 a b c e)) &&
  (decide (ca_wd (ca_tx a b) = (if ca_f a + ca_f b = 0 then 0 else if ca_f a + ca_f b = 1 then 1 else if a = b then 2 else 3)) &&
  (decide (ca_rp (ca_tx a b) = (if ca_f a + ca_f b = 2 then (if a = b then 1 else 0) else 0)))))))
theorem ca_allT : ∀ a, a < 5 → ∀ b, b < 5 → ∀ c, c < 5 → ∀ e, e < 5 → ca_all a b c e = true := by decide +kernel
theorem ca_laws (a : Nat) (ha : a < 5) (b : Nat) (hb : b < 5) (c : Nat) (hc : c < 5) (e : Nat) (he : e < 5) :
  nI (ca_pc (ca_tx a b) (ca_tx c e) 2 0) = (if ca_f c + ca_f e = 0 then 0 else if ca_19 a b c e = 0 then ca_f c + ca_f e else 1) ∧
  (ca_le (ca_tx a b) (ca_tx c e) = (if ca_f c + ca_f e = 0 then -4 else if ca_19 a b c e = 0 then 1 else 2) ∧
  (ca_fr (ca_tx a b) (ca_tx c e) = (if ca_f c + ca_f e = 0 then -4 else ca_20 a b c e) ∧
  (ca_oc (ca_tx a b) (ca_tx c e) = (if ca_f c + ca_f e = 0 then -1 else ca_18 a b c e) ∧
  (ca_wd (ca_tx a b) = (if ca_f a + ca_f b = 0 then 0 else if ca_f a + ca_f b = 1 then 1 else if a = b then 2 else 3) ∧
  (ca_rp (ca_tx a b) = (if ca_f a + ca_f b = 2 then (if a = b then 1 else 0) else 0)))))) := by
  have h := ca_allT a ha b hb c hc e he
  simp only [ca_all, Bool.and_eq_true, decide_eq_true_eq] at h
  exact h
end
section
theorem ca_tx_eq (p q : Int32) : ca_ad (ca_ad [] p) q = ca_tx (ca_cd p) (ca_cd q) := by
  rw [ca_cd_ad, ca_cd_ad, List.nil_append, ca_tx]
theorem ca_ad_le (p : Int32) : (ca_ad [] p).length ≤ 1 := by
  rw [ca_cd_ad]
  split
  · simp
  · simp
theorem ca_lawOf (p0 p1 p2 p3 : Int32) : wpL_lawOf (fun r _ => r = 1) 376 6000 () p0 p1 p2 p3 := by
  refine ⟨by omega, by omega, 10, 731, by omega, by omega, ca_init (by omega) (by omega) (fun u0 k0 => ?_)⟩
  obtain ⟨s0, t0, m0, w0, cn0, sa0, a01, a02, a03, a04, a05, a06, a07, a08, a09, a010⟩ := u0
  refine ca_src k0 (by simp) (fun r1 u1 k1 => ?_)
  obtain ⟨s1, t1, m1, w1, cn1, sa1, a11, a12, a13, a14, a15, a16, a17, a18, a19, a110⟩ := u1
  refine ca_src k1 (ca_ad_le p0) (fun r2 u2 k2 => ?_)
  obtain ⟨s2, t2, m2, w2, cn2, sa2, a21, a22, a23, a24, a25, a26, a27, a28, a29, a210⟩ := u2
  refine ca_tgt k2 (by simp) (fun r3 u3 k3 => ?_)
  obtain ⟨s3, t3, m3, w3, cn3, sa3, a31, a32, a33, a34, a35, a36, a37, a38, a39, a310⟩ := u3
  refine ca_tgt k3 (ca_ad_le p2) (fun r4 u4 k4 => ?_)
  obtain ⟨s4, t4, m4, w4, cn4, sa4, a41, a42, a43, a44, a45, a46, a47, a48, a49, a410⟩ := u4
  rw [ca_tx_eq, ca_tx_eq] at k4
  refine ca_pieces k4 (fun u5 k5 => ?_)
  obtain ⟨s5, t5, m5, w5, cn5, sa5, a51, a52, a53, a54, a55, a56, a57, a58, a59, a510⟩ := u5
  refine ca_plen k5 (fun u6 k6 => ?_)
  obtain ⟨s6, t6, m6, w6, cn6, sa6, a61, a62, a63, a64, a65, a66, a67, a68, a69, a610⟩ := u6
  refine ca_pfrom k6 (fun u7 k7 => ?_)
  obtain ⟨s7, t7, m7, w7, cn7, sa7, a71, a72, a73, a74, a75, a76, a77, a78, a79, a710⟩ := u7
  refine ca_occ k7 (fun u8 k8 => ?_)
  obtain ⟨s8, t8, m8, w8, cn8, sa8, a81, a82, a83, a84, a85, a86, a87, a88, a89, a810⟩ := u8
  refine ca_words k8 ?_
  refine ca_rep k8 (fun u9 => ?_)
  obtain ⟨s9, t9, m9, w9, cn9, sa9, a91, a92, a93, a94, a95, a96, a97, a98, a99, a910⟩ := u9
  obtain ⟨E5, E6, E7, E8, E9, E10⟩ := ca_laws _ (ca_cd_le p0) _ (ca_cd_le p1) _ (ca_cd_le p2) _ (ca_cd_le p3)
  have H := ca_l145 (mc := 376) (ms := 6000) (kc := 1 + 10) (ks := 16 + 731) rfl rfl rfl rfl (ca_l300 (ca_f_012 _ _) (fun z => ca_cd_eq (ca_f_2 z).1) E5 E6 E7 E8 E9 E10)
  refine ca_flK (K := fun z => wL_lawOf_97 (fun r _ => r = 1) 376 6000 p0 p1 p2 p3 _ _ _ _ _ _ z (1 + 10) (16 + 731)) ?_
  refine ca_flK (K := fun z => wL_lawOf_113 (fun r _ => r = 1) 376 6000 p0 p1 p2 p3 _ _ _ _ _ _ (ca_f (ca_cd p0)) z (1 + 10) (16 + 731)) ?_
  refine ca_flK (K := fun z => wL_lawOf_129 (fun r _ => r = 1) 376 6000 p0 p1 p2 p3 _ _ _ _ _ _ (ca_f (ca_cd p0)) (ca_f (ca_cd p1)) z (1 + 10) (16 + 731)) ?_
  refine ca_flK (K := fun z => wL_lawOf_145 (fun r _ => r = 1) 376 6000 p0 p1 p2 p3 _ _ _ _ _ _ (ca_f (ca_cd p0)) (ca_f (ca_cd p1)) (ca_f (ca_cd p2)) z (1 + 10) (16 + 731)) ?_
  exact H
theorem ca_cell {post : Int32 → Prop} {L : Nat} {xs : Nat → Int32} (k : Nat) (hL : L ≤ 4) (hk : k < 4) (hp : ∀ v, post v) : wpL_cellAt post L xs () (nI k) :=
  pk_le L k (fun _ => hp _) (fun z => ⟨pk_in k L z, hp _⟩)
theorem i_vc (xs : Nat → Int32) (L : Nat) (hL : L ≤ 4) : wpL_law (fun r => r = 1) L xs :=
  ca_cell 0 hL (by omega) (fun _ => ca_cell 1 hL (by omega) (fun _ => ca_cell 2 hL (by omega) (fun _ => ca_cell 3 hL (by omega) (fun _ => ⟨376, 6000, by omega, by omega, ca_lawOf _ _ _ _⟩))))
end
