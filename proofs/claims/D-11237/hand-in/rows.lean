section
/-! The pure picture: of a matrix only the cells of the points 0, 1 and 2 (the origin) are kept, nine ints. -/
def dt_g (L : List Int32) (p q : Nat) : Int32 := L.getD (3 * p + q) 0
def dt_A (s : Nat → Int32) (o : Nat) (L : List Int32) : Prop := L.length = 9 ∧ ∀ p q, p < 3 → q < 3 → s (o + (5 * p + q)) = dt_g L p q
def dt_L0 : List Int32 := [0, 7, 7, 7, 0, 7, 0, 0, 0]
def dt_w (L : List Int32) (i j : Nat) (l : Int32) (p q : Nat) : Int32 :=
  if dt_g L p q ≤ dt_g L p i + l + dt_g L j q then dt_g L p q else dt_g L p i + l + dt_g L j q
/-- tighten: from one matrix to the next -/
def dt_t (L : List Int32) (i j : Nat) (l : Int32) : List Int32 :=
  [dt_w L i j l 0 0, dt_w L i j l 0 1, dt_w L i j l 0 2, dt_w L i j l 1 0, dt_w L i j l 1 1, dt_w L i j l 1 2, dt_w L i j l 2 0, dt_w L i j l 2 1, dt_w L i j l 2 2]
/-- tightenStart: in place, cell by cell -/
def dt_f (L : List Int32) (i j : Nat) (l : Int32) : Nat → List Int32
  | 0 => L
  | t + 1 => (dt_f L i j l t).set t (dt_w (dt_f L i j l t) i j l (t / 3) (t % 3))
/-- the start matrix: none when it is known to be bad -/
def dt_ts (S : Option (List Int32)) (i j : Nat) (l : Int32) : Option (List Int32) :=
  match S with
  | none => none
  | some L => if l < dt_g L i j then (if 0 ≤ dt_g L j i + l then some (dt_f L i j l 9) else none) else some L
/-- one constraint of one comparison (end, begin, limit) -/
def dt_st (L : List Int32) (e b : Nat) (l : Int32) : Option (List Int32) :=
  if l < dt_g L e b then (if dt_g L b e + l < 0 then none else some (dt_t L e b l)) else some L
def dt_run : List (Nat × Nat × Int32) → List Int32 → Option (List Int32)
  | [], L => some L
  | (e, b, l) :: r, L => match dt_st L e b l with
    | none => none
    | some L' => dt_run r L'
def dt_sr (S : Option (List Int32)) (cs : List (Nat × Nat × Int32)) : Option (List Int32) :=
  match S with
  | none => none
  | some L => dt_run cs L
/-- best, from -1000 on -/
def dt_b (z : Int32) : Int32 := if z ≤ (-1000) then (-1000) else z
/-- how many of the nine cells a loop over 25 has passed -/
def dt_k (k : Nat) : Nat := min 9 (3 * (k / 5) + min (k % 5) 3)

theorem dt_A0 {s : Nat → Int32} {L : List Int32} {p q : Nat} (h : dt_A s 0 L) (hp : p < 3) (hq : q < 3) : s (5 * p + q) = dt_g L p q := by
  have t := h.2 p q hp hq
  rw [Nat.zero_add] at t
  exact t
theorem dt_A_set {s : Nat → Int32} {o p q : Nat} {L : List Int32} {x : Int32} (h : dt_A s o L) (hp : p < 3) (hq : q < 3) : dt_A (upd s (o + (5 * p + q)) x) o (L.set (3 * p + q) x) := by
  have hL := h.1
  refine ⟨by rw [List.length_set]; exact h.1, fun p' q' hp' hq' => ?_⟩
  by_cases e : 3 * p' + q' = 3 * p + q
  · have e1 : p' = p := by omega
    have e2 : q' = q := by omega
    subst e1 e2
    unfold dt_g
    rw [pk_us, List.getD_eq_getElem?_getD, List.getElem?_set_self (by omega)]
    rfl
  · rw [pk_un (by omega), h.2 p' q' hp' hq']
    unfold dt_g
    rw [List.getD_eq_getElem?_getD, List.getD_eq_getElem?_getD, List.getElem?_set_ne (by omega)]
theorem dt_A_off {s : Nat → Int32} {o k : Nat} {L : List Int32} {x : Int32} (h : dt_A s o L) (hk : ∀ p q, p < 3 → q < 3 → o + (5 * p + q) ≠ k) : dt_A (upd s k x) o L :=
  ⟨h.1, fun p q hp hq => by rw [pk_un (hk p q hp hq)]; exact h.2 p q hp hq⟩
theorem dt_s46 {s : Nat → Int32} {L : List Int32} {i j k : Nat} {l v : Int32} (hk : k < 25) (hi : i < 3) (hj : j < 3) (h : dt_A s 0 (dt_f L i j l (dt_k k)))
    (hv : v = if s k ≤ s (5 * (k / 5) + i) + l + s (5 * j + k % 5) then s k else s (5 * (k / 5) + i) + l + s (5 * j + k % 5)) : dt_A (upd s k v) 0 (dt_f L i j l (dt_k (k + 1))) := by
  by_cases hp : k / 5 < 3
  · by_cases hq : k % 5 < 3
    · have e1 : dt_k k = 3 * (k / 5) + k % 5 := by unfold dt_k; omega
      have e2 : dt_k (k + 1) = (3 * (k / 5) + k % 5) + 1 := by unfold dt_k; omega
      rw [e1] at h
      rw [e2]
      have hv' : v = dt_w (dt_f L i j l (3 * (k / 5) + k % 5)) i j l ((3 * (k / 5) + k % 5) / 3) ((3 * (k / 5) + k % 5) % 3) := by
        rw [show (3 * (k / 5) + k % 5) / 3 = k / 5 by omega, show (3 * (k / 5) + k % 5) % 3 = k % 5 by omega, hv]
        unfold dt_w
        rw [← dt_A0 h hp hq, ← dt_A0 h hp hi, ← dt_A0 h hj hq, show 5 * (k / 5) + k % 5 = k by omega]
      have t := dt_A_set (x := v) h hp hq
      rw [show 0 + (5 * (k / 5) + k % 5) = k by omega] at t
      show dt_A (upd s k v) 0 ((dt_f L i j l (3 * (k / 5) + k % 5)).set (3 * (k / 5) + k % 5) (dt_w (dt_f L i j l (3 * (k / 5) + k % 5)) i j l ((3 * (k / 5) + k % 5) / 3) ((3 * (k / 5) + k % 5) % 3)))
      rw [← hv']
      exact t
    · have e1 : dt_k (k + 1) = dt_k k := by unfold dt_k; omega
      rw [e1]
      exact dt_A_off h (fun p q hp hq => by omega)
  · have e1 : dt_k (k + 1) = dt_k k := by unfold dt_k; omega
    rw [e1]
    exact dt_A_off h (fun p q hp hq => by omega)
theorem dt_t_g {L : List Int32} {i j : Nat} {l : Int32} {p q : Nat} (hp : p < 3) (hq : q < 3) : dt_g (dt_t L i j l) p q = dt_w L i j l p q :=
  co_3 (P := fun p => dt_g (dt_t L i j l) p q = dt_w L i j l p q)
    (co_3 (P := fun q => dt_g (dt_t L i j l) 0 q = dt_w L i j l 0 q) rfl rfl rfl hq)
    (co_3 (P := fun q => dt_g (dt_t L i j l) 1 q = dt_w L i j l 1 q) rfl rfl rfl hq)
    (co_3 (P := fun q => dt_g (dt_t L i j l) 2 q = dt_w L i j l 2 q) rfl rfl rfl hq) hp
/-! indices -/
theorem dt_m5 (p i : Nat) : (5 : Int32) * nI p + nI i = nI (5 * p + i) := by
  rw [show (5 : Int32) = nI 5 from rfl, pk_mul, nI_add]
theorem dt_m25 (d : Nat) : (25 : Int32) * nI d = nI (25 * d) := by
  rw [show (25 : Int32) = nI 25 from rfl, pk_mul]
theorem dt_m3 (d : Nat) : (3 : Int32) * nI d = nI (3 * d) := by
  rw [show (3 : Int32) = nI 3 from rfl, pk_mul]
theorem dt_x3 (o p q : Nat) : nI o + 5 * nI p + nI q = nI (o + (5 * p + q)) := by
  rw [show (5 : Int32) = nI 5 from rfl, pk_mul, nI_add, nI_add, Nat.add_assoc]
theorem dt_d5 {k : Nat} (h : k < 25) : nI k / 5 = nI (k / 5) := pk_div (d := 5) (by omega) (by omega) (by omega)
theorem dt_r5 {k : Nat} (h : k < 25) : nI k - nI k / 5 * 5 = nI (k % 5) := pk_rem (d := 5) (by omega) (by omega) (by omega)
theorem dt_ne {d : Nat} (h : d < 100) : ¬ nI d = -1 := by
  intro e
  have t := congrArg Int32.toInt e
  rw [nI_toInt (by omega)] at t
  have : (-1 : Int32).toInt = -1 := by decide
  omega
end
section
section
variable {post : St2 → Prop} {fn c ds act sk bad best : Int32} {a1 a2 a3 a4 a5 a6 a7 a8 a9 a10 : Nat → Int32}
def dt_o (j : Nat) : Int32 := if j / 5 = j % 5 ∨ j / 5 = 2 then 0 else 7
theorem dt_fill {f s : Nat → Int32} {i k : Nat} {x : Int32} (hk : k = i) (h : ∀ j, j < i → s j = f j) (hx : x = f i) : ∀ j, j < i + 1 → upd s k x j = f j := by
  intro j hj
  rw [hk]
  by_cases e : j = i
  · rw [e, pk_us, hx]
  · rw [pk_un e]
    exact h j (by omega)
theorem dt_pre {f s : Nat → Int32} {i k : Nat} {x : Int32} (hk : k = i) (h : ∀ j, j < i → s j = f j) : ∀ j, j < i → upd s k x j = f j := by
  intro j hj
  rw [hk, pk_un (by omega)]
  exact h j hj
theorem dt_oA {s : Nat → Int32} (h : ∀ j, j < 25 → s j = dt_o j) : dt_A s 0 dt_L0 := by
  refine ⟨rfl, fun p q hp hq => ?_⟩
  rw [Nat.zero_add, h _ (by omega)]
  exact co_3 (P := fun p => dt_o (5 * p + q) = dt_g dt_L0 p q)
    (co_3 (P := fun q => dt_o (5 * 0 + q) = dt_g dt_L0 0 q) rfl rfl rfl hq)
    (co_3 (P := fun q => dt_o (5 * 1 + q) = dt_g dt_L0 1 q) rfl rfl rfl hq)
    (co_3 (P := fun q => dt_o (5 * 2 + q) = dt_g dt_L0 2 q) rfl rfl rfl hq) hp
theorem dt_os (H : ∀ a, dt_A a 0 dt_L0 → post (2, c, ds, act, sk, 0, best, a1, a2, a3, a4, a5, a6, a7, a, a9, a10)) : wpX_openStart post (2, c, ds, act, sk, bad, best, a1, a2, a3, a4, a5, a6, a7, a8, a9, a10) :=
  pk_loop (fun n k s => wX_openStart_7 post 2 c ds act sk 0 best n (nI k) a1 a2 a3 a4 a5 a6 a7 s a9 a10) (fun k s => ∀ j, j < k → s j = dt_o j) 25 0 a8 (by omega) (fun j hj => absurd hj (by omega))
    (fun n s h => pk_le 25 25 (fun _ => H s (dt_oA h)) (fun z => absurd z (by omega)))
    (fun n k s hk h hw => pk_le 25 k (fun z => absurd z (by omega)) (fun _ => ⟨by decide, nm_r (dt_d5 hk) ⟨by decide, nm_r (dt_r5 hk) ⟨pk_in k 25 hk, nm_e (pk_eq (k / 5) (k % 5)
      (fun z => ⟨pk_in k 25 hk, nm_e (nm_r (nI_1 k) (hw _ (dt_fill (pk_cl k) (dt_pre (pk_cl k) h) (by unfold dt_o; rw [if_pos (Or.inl z)]))))⟩)
      (fun z => pk_eq (k / 5) 2
        (fun z2 => ⟨pk_in k 25 hk, nm_e (nm_r (nI_1 k) (hw _ (dt_fill (pk_cl k) (dt_pre (pk_cl k) h) (by unfold dt_o; rw [if_pos (Or.inr z2)]))))⟩)
        (fun z2 => nm_r (nI_1 k) (hw _ (dt_fill (pk_cl k) h (by unfold dt_o; rw [if_neg (fun t => t.elim z z2)]))))))⟩⟩⟩))
theorem dt_x1 (d k : Nat) : (25 : Int32) * nI d + nI k = nI (25 * d + k) := by
  rw [dt_m25, nI_add]
theorem dt_x2 (d k : Nat) : (25 : Int32) * nI d + 25 + nI k = nI (25 * d + 25 + k) := by
  rw [dt_m25, show (25 : Int32) = nI 25 from rfl, nI_add, nI_add]
theorem dt_co {d : Nat} (hd : d < 8) (H : ∀ a, (∀ j, j < 25 → a (25 * d + 25 + j) = a9 (25 * d + j)) → (∀ j, j < 25 * d + 25 → a j = a9 j) → post (fn, c, ds, act, sk, bad, best, a1, a2, a3, a4, a5, a6, a7, a8, a, a10)) : wpX_copyOn post (fn, c, ds, act, sk, bad, best, a1, a2, a3, a4, a5, a6, a7, a8, a9, a10) (nI d) :=
  pk_loop (fun n k s => wX_copyOn_2 post (nI d) fn c ds act sk bad best n (nI k) a1 a2 a3 a4 a5 a6 a7 a8 s a10) (fun k s => (∀ j, j < k → s (25 * d + 25 + j) = a9 (25 * d + j)) ∧ ∀ j, j < 25 * d + 25 → s j = a9 j) 25 0 a9 (by omega) ⟨fun j hj => absurd hj (by omega), fun j hj => rfl⟩
    (fun n s h => pk_le 25 25 (fun _ => H s h.1 h.2) (fun z => absurd z (by omega)))
    (fun n k s hk h hw => pk_le 25 k (fun z => absurd z (by omega)) (fun _ => ⟨pk_in (25 * d + k) 225 (by omega) (dt_x1 d k), pk_in (25 * d + 25 + k) 225 (by omega) (dt_x2 d k), nm_e (nm_r (nI_1 k) (hw _ (by
      rw [pk_cl (25 * d + 25 + k) (dt_x2 d k), pk_cl (25 * d + k) (dt_x1 d k)]
      refine ⟨fun j hj => ?_, fun j hj => ?_⟩
      · by_cases e : j = k
        · rw [e, pk_us, h.2 _ (by omega)]
        · rw [pk_un (by omega), h.1 j (by omega)]
      · rw [pk_un (by omega), h.2 j hj])))⟩))
/-- tighten, one cell -/
def dt_I16 (d : Nat) (L : List Int32) (i j : Nat) (l : Int32) (k : Nat) (s : Nat → Int32) : Prop :=
  dt_A s (25 * d) L ∧ ∀ p q, p < 3 → q < 3 → s (25 * d + 25 + (5 * p + q)) = if 5 * p + q < k then dt_w L i j l p q else dt_g L p q
theorem dt_s16a {d i j k : Nat} {L : List Int32} {l : Int32} {s : Nat → Int32} (hk : k < 25) (hi : i < 3) (hj : j < 3) (h : dt_I16 d L i j l k s)
    (hc : s (25 * d + 25 + k) ≤ s (25 * d + (5 * (k / 5) + i)) + l + s (25 * d + (5 * j + k % 5))) : dt_I16 d L i j l (k + 1) s := by
  refine ⟨h.1, fun p q hp hq => ?_⟩
  have t := h.2 p q hp hq
  by_cases e : 5 * p + q = k
  · have e1 : k / 5 = p := by omega
    have e2 : k % 5 = q := by omega
    rw [if_neg (by omega)] at t
    rw [← e, t, show (5 * p + q) / 5 = p by omega, show (5 * p + q) % 5 = q by omega, h.1.2 p i hp hi, h.1.2 j q hj hq] at hc
    rw [if_pos (by omega), t]
    unfold dt_w
    rw [if_pos hc]
  · by_cases e2 : 5 * p + q < k
    · rw [if_pos e2] at t
      rw [if_pos (by omega), t]
    · rw [if_neg e2] at t
      rw [if_neg (by omega), t]
theorem dt_s16b {d i j k : Nat} {L : List Int32} {l : Int32} {s : Nat → Int32} (hk : k < 25) (hi : i < 3) (hj : j < 3) (h : dt_I16 d L i j l k s)
    (hc : ¬ s (25 * d + 25 + k) ≤ s (25 * d + (5 * (k / 5) + i)) + l + s (25 * d + (5 * j + k % 5))) : dt_I16 d L i j l (k + 1) (upd s (25 * d + 25 + k) (s (25 * d + (5 * (k / 5) + i)) + l + s (25 * d + (5 * j + k % 5)))) := by
  refine ⟨dt_A_off h.1 (fun p q hp hq => by omega), fun p q hp hq => ?_⟩
  have t := h.2 p q hp hq
  by_cases e : 5 * p + q = k
  · rw [if_neg (by omega)] at t
    rw [← e, show (5 * p + q) / 5 = p by omega, show (5 * p + q) % 5 = q by omega, h.1.2 p i hp hi, h.1.2 j q hj hq] at hc ⊢
    rw [t] at hc
    rw [pk_us, if_pos (by omega)]
    unfold dt_w
    rw [if_neg hc]
  · rw [pk_un (by omega)]
    by_cases e2 : 5 * p + q < k
    · rw [if_pos e2] at t
      rw [if_pos (by omega), t]
    · rw [if_neg e2] at t
      rw [if_neg (by omega), t]
theorem dt_ti {d i j : Nat} {l p0 : Int32} {L : List Int32} (hd : d < 8) (hi : i < 3) (hj : j < 3) (hp0 : p0 = nI (d + 1)) (hA : dt_A a9 (25 * d) L) (hB : dt_A a9 (25 * d + 25) L)
    (H : ∀ a, dt_A a (25 * d + 25) (dt_t L i j l) → post (fn, c, ds, act, sk, bad, best, a1, a2, a3, a4, a5, a6, a7, a8, a, a10)) : wpX_tighten post (fn, c, ds, act, sk, bad, best, a1, a2, a3, a4, a5, a6, a7, a8, a9, a10) p0 (nI i) (nI j) l := by
  unfold wpX_tighten
  dsimp only
  refine nm_r (e' := nI (25 * d + 25)) (by rw [hp0, dt_m25]; rfl) (nm_r (e' := nI (25 * d)) ?_ ?_)
  · rw [show (25 : Int32) = nI 25 from rfl, pk_sub (by omega)]
    rfl
  · exact pk_loop (fun n k s => wX_tighten_16 post (nI i) (nI j) l (nI (25 * d + 25)) (nI (25 * d)) fn c ds act sk bad best n (nI k) a1 a2 a3 a4 a5 a6 a7 a8 s a10) (dt_I16 d L i j l) 25 0 a9 (by omega) ⟨hA, fun p q hp hq => by rw [if_neg (by omega)]; exact hB.2 p q hp hq⟩
      (fun n s h => pk_le 25 25 (fun _ => H s ⟨rfl, fun p q hp hq => by rw [h.2 p q hp hq, if_pos (by omega), dt_t_g hp hq]⟩) (fun z => absurd z (by omega)))
      (fun n k s hk h hw => pk_le 25 k (fun z => absurd z (by omega)) (fun _ => ⟨by decide, nm_r (dt_d5 hk) ⟨by decide, nm_r (dt_r5 hk) ⟨pk_in (25 * d + (5 * (k / 5) + i)) 225 (by omega) (dt_x3 _ _ _), pk_in (25 * d + (5 * j + k % 5)) 225 (by omega) (dt_x3 _ _ _),
        nm_r (e' := s (25 * d + (5 * (k / 5) + i)) + l + s (25 * d + (5 * j + k % 5))) (by rw [pk_cl _ (dt_x3 (25 * d) (k / 5) i), pk_cl _ (dt_x3 (25 * d) j (k % 5))])
          ⟨pk_in (25 * d + 25 + k) 225 (by omega) (nI_add _ _), by
            rw [pk_cl _ (nI_add (25 * d + 25) k)]
            exact br_c (fun z => nm_r (nI_1 k) (hw _ (dt_s16a hk hi hj h z))) (fun z => ⟨pk_in (25 * d + 25 + k) 225 (by omega) (nI_add _ _), nm_e (nm_r (nI_1 k) (hw _ (dt_s16b hk hi hj h z)))⟩)⟩⟩⟩⟩))
/-- the start matrix and its picture -/
def dt_S (bad : Int32) (a8 : Nat → Int32) (S : Option (List Int32)) : Prop :=
  match S with
  | none => bad = 1
  | some L => bad = 0 ∧ dt_A a8 0 L
theorem dt_46 {i j : Nat} {l : Int32} {L : List Int32} (hi : i < 3) (hj : j < 3) (hA : dt_A a8 0 L) (H : ∀ a, dt_A a 0 (dt_f L i j l 9) → post (fn, c, ds, act, sk, bad, best, a1, a2, a3, a4, a5, a6, a7, a, a9, a10)) : ∃ n, wX_tightenStart_46 post (nI i) (nI j) l fn c ds act sk bad best n 0 a1 a2 a3 a4 a5 a6 a7 a8 a9 a10 :=
  pk_loop (fun n k s => wX_tightenStart_46 post (nI i) (nI j) l fn c ds act sk bad best n (nI k) a1 a2 a3 a4 a5 a6 a7 s a9 a10) (fun k s => dt_A s 0 (dt_f L i j l (dt_k k))) 25 0 a8 (by omega) hA
    (fun n s h => pk_le 25 25 (fun _ => H s h) (fun z => absurd z (by omega)))
    (fun n k s hk h hw => pk_le 25 k (fun z => absurd z (by omega)) (fun _ => ⟨by decide, nm_r (dt_d5 hk) ⟨by decide, nm_r (dt_r5 hk) ⟨pk_in (5 * (k / 5) + i) 25 (by omega) (dt_m5 _ _), pk_in (5 * j + k % 5) 25 (by omega) (dt_m5 _ _),
      nm_r (e' := s (5 * (k / 5) + i) + l + s (5 * j + k % 5)) (by rw [pk_cl _ (dt_m5 (k / 5) i), pk_cl _ (dt_m5 j (k % 5))])
        ⟨pk_in k 25 hk, by
          rw [pk_cl k]
          exact br_c (fun z => ⟨pk_in k 25 hk, pk_in k 25 hk, nm_e (nm_r (nI_1 k) (hw _ (dt_s46 hk hi hj h (by rw [if_pos z]))))⟩) (fun z => ⟨pk_in k 25 hk, nm_e (nm_r (nI_1 k) (hw _ (dt_s46 hk hi hj h (by rw [if_neg z]))))⟩)⟩⟩⟩⟩))
theorem dt_tst {i j : Nat} {l : Int32} {S : Option (List Int32)} (hi : i < 3) (hj : j < 3) (hS : dt_S bad a8 S)
    (H : ∀ bad' a, dt_S bad' a (dt_ts S i j l) → post (fn, c, ds, act, sk, bad', best, a1, a2, a3, a4, a5, a6, a7, a, a9, a10)) : wpX_tightenStart post (fn, c, ds, act, sk, bad, best, a1, a2, a3, a4, a5, a6, a7, a8, a9, a10) (nI i) (nI j) l := by
  unfold wpX_tightenStart
  dsimp only
  cases S with
  | none =>
    have e : bad = 1 := hS
    exact br_f (by rw [e]; decide) (H bad a8 hS)
  | some L =>
    obtain ⟨e, hA⟩ := hS
    refine br_t e ⟨pk_in (5 * i + j) 25 (by omega) (dt_m5 _ _), ?_⟩
    rw [pk_cl _ (dt_m5 i j), pk_cl _ (dt_m5 j i), dt_A0 hA hi hj, dt_A0 hA hj hi]
    refine br_c (fun z => ⟨pk_in (5 * j + i) 25 (by omega) (dt_m5 _ _), br_c (fun z2 => dt_46 hi hj hA (fun a ha => H bad a ?_)) (fun z2 => H 1 a8 ?_)⟩) (fun z => H bad a8 ?_)
    · unfold dt_ts
      dsimp only
      rw [if_pos z, if_pos z2]
      exact ⟨e, ha⟩
    · unfold dt_ts
      dsimp only
      rw [if_pos z, if_neg z2]
      rfl
    · unfold dt_ts
      dsimp only
      rw [if_neg z]
      exact ⟨e, hA⟩
end
end
section
section
variable {post : Int32 → St2 → Prop} {c ds act bad best : Int32} {a1 a2 a3 a4 a5 a6 a7 a8 a9 a10 : Nat → Int32}
theorem dt_k3 (d : Nat) : (3 : Int32) * nI d + 1 = nI (3 * d + 1) := by
  rw [dt_m3, nI_1]
/-- goOn a second time: false, whatever the matrix -/
theorem dt_goUp {d e b : Nat} (hd : d < 8) (he : e < 3) (hb : b < 3) (h4 : a4 d = 1) (h1 : a1 (3 * d) = nI e) (h2 : a2 (3 * d) = nI b) (ht : a10 d = 1)
    (H : ∀ s t, (∀ j, j ≠ d → t j = a10 j) → post 0 (2, c, ds, act, -1, bad, best, a1, a2, a3, a4, a5, a6, a7, a8, s, t)) :
    wpX_goOn post (2, c, ds, act, -1, bad, best, a1, a2, a3, a4, a5, a6, a7, a8, a9, a10) (nI d) := by
  unfold wpX_goOn
  dsimp only
  refine nm_r (dt_m25 d) (br_f (dt_ne (by omega)) ⟨pk_in d 8 hd, ?_⟩)
  rw [nI_clamp (show d < 2 ^ 31 by omega), h4]
  unfold wX_goOn_23
  refine br_f (dt_ne (by omega)) (nm_r (dt_m3 d) ⟨0 + 1 + 1, ?_⟩)
  refine pk_le (3 * d + 1) (3 * d) (fun z => absurd z (by omega)) (fun _ => br_t rfl ⟨pk_in (3 * d) 24 (by omega), pk_in (3 * d) 24 (by omega), ?_⟩) (dt_k3 d) rfl
  rw [nI_clamp (show 3 * d < 2 ^ 31 by omega), h1, h2]
  refine ⟨pk_in (25 * d + (5 * e + b)) 225 (by omega) (dt_x3 _ _ _), pk_in (3 * d) 24 (by omega), br_c (fun _ => nm_r (nI_1 _) ?_) (fun _ => nm_r (nI_1 _) ?_)⟩
  · refine pk_le (3 * d + 1) (3 * d + 1) (fun _ => br_t rfl ⟨0 + 1, ?_⟩) (fun z => absurd z (by omega)) (dt_k3 d) rfl
    refine pk_le 3 0 (fun z => absurd z (by omega)) (fun _ => ⟨pk_in d 9 (by omega), br_t ?_ (H a9 a10 (fun j hj => rfl))⟩)
    rw [nI_clamp (show d < 2 ^ 31 by omega), ht]
    decide
  · refine pk_le (3 * d + 1) (3 * d + 1) (fun _ => br_f (by decide) ⟨pk_in d 9 (by omega), pk_in d 9 (by omega), nm_e (dt_co hd (fun s _ _ => ?_))⟩) (fun z => absurd z (by omega)) (dt_k3 d) rfl
    dsimp only
    refine ⟨pk_in d 9 (by omega), br_f ?_ (H s _ ?_)⟩
    · rw [nI_clamp (show d < 2 ^ 31 by omega), pk_us, ht]
      decide
    · intro j hj
      rw [nI_clamp (show d < 2 ^ 31 by omega), pk_un hj]
/-- goOn the first time: the constraint's one comparison -/
theorem dt_goDown {d e b : Nat} {l : Int32} {L : List Int32} (hd : d < 8) (he : e < 3) (hb : b < 3) (h4 : a4 d = 1) (h1 : a1 (3 * d) = nI e) (h2 : a2 (3 * d) = nI b) (h3 : a3 (3 * d) = l) (ht : a10 d = 0) (hA : dt_A a9 (25 * d) L)
    (H0 : dt_st L e b l = none → ∀ s t, (∀ j, j ≠ d → t j = a10 j) → post 0 (2, c, ds, act, -1, bad, best, a1, a2, a3, a4, a5, a6, a7, a8, s, t))
    (H1 : ∀ L', dt_st L e b l = some L' → ∀ s t, dt_A s (25 * d + 25) L' → t d = 1 → (∀ j, j ≠ d → t j = a10 j) → post 1 (2, c, ds, act, -1, bad, best, a1, a2, a3, a4, a5, a6, a7, a8, s, t)) :
    wpX_goOn post (2, c, ds, act, -1, bad, best, a1, a2, a3, a4, a5, a6, a7, a8, a9, a10) (nI d) := by
  unfold wpX_goOn
  dsimp only
  refine nm_r (dt_m25 d) (br_f (dt_ne (by omega)) ⟨pk_in d 8 hd, ?_⟩)
  rw [nI_clamp (show d < 2 ^ 31 by omega), h4]
  unfold wX_goOn_23
  refine br_f (dt_ne (by omega)) (nm_r (dt_m3 d) ⟨0 + 1 + 1, ?_⟩)
  refine pk_le (3 * d + 1) (3 * d) (fun z => absurd z (by omega)) (fun _ => br_t rfl ⟨pk_in (3 * d) 24 (by omega), pk_in (3 * d) 24 (by omega), ?_⟩) (dt_k3 d) rfl
  rw [nI_clamp (show 3 * d < 2 ^ 31 by omega), h1, h2, h3, pk_cl _ (dt_x3 (25 * d) e b), hA.2 e b he hb]
  refine ⟨pk_in (25 * d + (5 * e + b)) 225 (by omega) (dt_x3 _ _ _), pk_in (3 * d) 24 (by omega), br_c (fun z => nm_r (nI_1 _) ?_) (fun z => nm_r (nI_1 _) ?_)⟩
  · refine pk_le (3 * d + 1) (3 * d + 1) (fun _ => br_t rfl ⟨0 + 1 + 1, ?_⟩) (fun z => absurd z (by omega)) (dt_k3 d) rfl
    refine pk_le 3 0 (fun z => absurd z (by omega)) (fun _ => ⟨pk_in d 9 (by omega), ?_⟩)
    rw [nI_clamp (show d < 2 ^ 31 by omega), ht]
    refine br_f (by decide) ⟨pk_in d 9 (by omega), nm_r (e' := nI (3 * d)) (by rw [dt_m3]; exact Int32.add_zero _) ⟨pk_in d 9 (by omega), pk_in d 9 (by omega), nm_e ?_⟩⟩
    rw [nI_clamp (show 3 * d < 2 ^ 31 by omega), h1, h2, h3, pk_cl _ (dt_x3 (25 * d) b e), hA.2 b e hb he]
    refine ⟨pk_in (3 * d) 24 (by omega), pk_in (3 * d) 24 (by omega), pk_in (25 * d + (5 * b + e)) 225 (by omega) (dt_x3 _ _ _), pk_in (3 * d) 24 (by omega), br_c (fun z2 => nm_r (e' := nI 1) rfl ?_) (fun z2 => dt_co hd (fun s hs1 hs2 => ?_))⟩
    · refine pk_le 3 1 (fun z => absurd z (by omega)) (fun _ => ⟨pk_in d 9 (by omega), br_t ?_ (H0 ?_ a9 _ ?_)⟩)
      · rw [nI_clamp (show d < 2 ^ 31 by omega), pk_us]
        decide
      · unfold dt_st
        rw [if_pos z, if_pos z2]
      · intro j hj
        rw [pk_un hj]
    · dsimp only
      rw [h1, h2, h3]
      have hs : dt_A s (25 * d) L := ⟨hA.1, fun p q hp hq => by rw [hs2 _ (by omega)]; exact hA.2 p q hp hq⟩
      have hs' : dt_A s (25 * d + 25) L := ⟨hA.1, fun p q hp hq => by rw [hs1 _ (by omega)]; exact hA.2 p q hp hq⟩
      refine ⟨pk_in (3 * d) 24 (by omega), pk_in (3 * d) 24 (by omega), pk_in (3 * d) 24 (by omega), dt_ti hd he hb (nI_1 d) hs hs' (fun s' hs'' => ?_)⟩
      dsimp only
      refine H1 (dt_t L e b l) ?_ s' _ hs'' ?_ ?_
      · unfold dt_st
        rw [if_pos z, if_neg z2]
      · rw [pk_us]
        rfl
      · intro j hj
        rw [pk_un hj]
  · refine pk_le (3 * d + 1) (3 * d + 1) (fun _ => br_f (by decide) ⟨pk_in d 9 (by omega), pk_in d 9 (by omega), nm_e (dt_co hd (fun s hs1 hs2 => ?_))⟩) (fun z => absurd z (by omega)) (dt_k3 d) rfl
    dsimp only
    rw [nI_clamp (show d < 2 ^ 31 by omega)]
    refine ⟨pk_in d 9 (by omega), br_t ?_ (H1 L ?_ s _ ⟨hA.1, fun p q hp hq => by rw [hs1 _ (by omega)]; exact hA.2 p q hp hq⟩ ?_ ?_)⟩
    · rw [pk_us, ht]
      rfl
    · unfold dt_st
      rw [if_neg z]
    · rw [pk_us, ht]
      rfl
    · intro j hj
      rw [pk_un hj]
theorem dt_nar {v : Int32} (h : v = 0 ∨ v = 1) : narrow .boolean (.int v) = .int v := by
  cases h with
  | inl h => rw [h]; rfl
  | inr h => rw [h]; rfl
/-- depth falls to -1, the answer stays -/
theorem dt_up {x1 x2 v : Int32} {m i j : Nat} (hm : m ≤ 8) (hx : x1 = -1 ∨ (i < 3 ∧ j < 3 ∧ x1 = nI i ∧ x2 = nI j)) (hv : v = 0 ∨ v = 1)
    (hC : ∀ d, d < m → a4 d = 1 ∧ ∃ e b, e < 3 ∧ b < 3 ∧ a1 (3 * d) = nI e ∧ a2 (3 * d) = nI b)
    (H : ∀ s t, post v (2, c, ds, nI m, -1, bad, best, a1, a2, a3, a4, a5, a6, a7, a8, s, t)) :
    ∀ (d n st : Nat) (a9 a10 : Nat → Int32), d ≤ m → d < n → st + d < 40000 → (∀ k, k < d → a10 k = 1) → wX_search_69 post x1 x2 n v (nI d + (-1)) (nI st) 2 c ds (nI m) (-1) bad best a1 a2 a3 a4 a5 a6 a7 a8 a9 a10 := by
  intro d
  induction d with
  | zero =>
    intro n st a9 a10 _ hn hst _
    obtain ⟨n, rfl⟩ : ∃ k, n = k + 1 := ⟨n - 1, by omega⟩
    exact pk_le 40000 st (fun z => absurd z (by omega)) (fun _ => br_t (by decide) ⟨dt_nar hv, H a9 a10⟩)
  | succ d ih =>
    intro n st a9 a10 hdm hn hst ht
    obtain ⟨n, rfl⟩ : ∃ k, n = k + 1 := ⟨n - 1, by omega⟩
    rw [pk_m1]
    have key : ∀ z0, wX_search_105 post (wX_search_69 post x1 x2 n) x1 x2 v (nI d) (nI st) z0 2 c ds (nI m) (-1) bad best a1 a2 a3 a4 a5 a6 a7 a8 a9 a10 := by
      intro z0
      have g : wX_search_172 post (wX_search_69 post x1 x2 n) x1 x2 v (nI d) (nI st) 2 c ds (nI m) (-1) bad best a1 a2 a3 a4 a5 a6 a7 a8 a9 a10 := by
        obtain ⟨h4, e, b, he, hb, h1, h2⟩ := hC d (by omega)
        unfold wX_search_172
        refine dt_goUp (by omega) he hb h4 h1 h2 (ht d (by omega)) (fun s t hst2 => ?_)
        dsimp only
        exact br_t rfl (nm_e (nm_r (nI_1 st) (ih n (st + 1) s t (by omega) (by omega) (by omega) (fun k hk => by rw [hst2 k (by omega)]; exact ht k (by omega)))))
      unfold wX_search_105
      exact pk_eq d m (fun z => absurd z (by omega)) (fun _ => br_c (fun _ => g) (fun _ => br_c (fun _ => g) (fun _ => nm_e (nm_r (nI_1 st) (ih n (st + 1) a9 a10 (by omega) (by omega) (by omega) (fun k hk => ht k (by omega)))))))
    refine pk_le 40000 st (fun z => absurd z (by omega)) (fun _ => br_f (nI_pos (by omega)) ?_)
    rcases hx with rfl | ⟨hi, hj, rfl, rfl⟩
    · exact br_f (by decide) (key 0)
    · exact br_t (nI_pos' (by omega)) ⟨pk_in (25 * d + (5 * i + j)) 225 (by omega) (by rw [dt_m25, dt_x3]), key _⟩
/-- the constraints from place d on, and their picture -/
def dt_C (a1 a2 a3 a4 : Nat → Int32) : Nat → List (Nat × Nat × Int32) → Prop
  | _, [] => True
  | d, (e, b, l) :: r => (e < 3 ∧ b < 3 ∧ a4 d = 1 ∧ a1 (3 * d) = nI e ∧ a2 (3 * d) = nI b ∧ a3 (3 * d) = l) ∧ dt_C a1 a2 a3 a4 (d + 1) r
theorem dt_C_all : ∀ (cs : List (Nat × Nat × Int32)) (o : Nat), dt_C a1 a2 a3 a4 o cs → ∀ d, o ≤ d → d < o + cs.length → a4 d = 1 ∧ ∃ e b, e < 3 ∧ b < 3 ∧ a1 (3 * d) = nI e ∧ a2 (3 * d) = nI b := by
  intro cs
  induction cs with
  | nil =>
    intro o _ d h1 h2
    exact absurd h2 (by rw [List.length_nil]; omega)
  | cons k r ih =>
    intro o h d h1 h2
    obtain ⟨e, b, l⟩ := k
    obtain ⟨⟨he, hb, t4, t1, t2, _⟩, hr⟩ := h
    rw [List.length_cons] at h2
    by_cases z : d = o
    · rw [z]
      exact ⟨t4, e, b, he, hb, t1, t2⟩
    · exact ih (o + 1) hr d (by omega) (by omega)
theorem dt_down {x1 x2 : Int32} {m i j : Nat} (hm : m ≤ 8) (hx : x1 = -1 ∨ (i < 3 ∧ j < 3 ∧ x1 = nI i ∧ x2 = nI j))
    (hC : ∀ d, d < m → a4 d = 1 ∧ ∃ e b, e < 3 ∧ b < 3 ∧ a1 (3 * d) = nI e ∧ a2 (3 * d) = nI b) :
    ∀ (cs : List (Nat × Nat × Int32)) (d n st : Nat) (L : List Int32) (a9 a10 : Nat → Int32), d + cs.length = m → m + cs.length + 3 ≤ n → st + 2 * cs.length + d + 2 < 40000 → dt_C a1 a2 a3 a4 d cs → dt_A a9 (25 * d) L → a10 d = 0 → (∀ k, k < d → a10 k = 1) →
      (dt_run cs L = none → ∀ s t, post 0 (2, c, ds, nI m, -1, bad, -1000, a1, a2, a3, a4, a5, a6, a7, a8, s, t)) →
      (∀ L', dt_run cs L = some L' → ∀ bs s t, (¬ x1 = -1 → bs = dt_b (dt_g L' i j)) → post 1 (2, c, ds, nI m, -1, bad, bs, a1, a2, a3, a4, a5, a6, a7, a8, s, t)) →
      wX_search_69 post x1 x2 n 0 (nI d) (nI st) 2 c ds (nI m) (-1) bad (-1000) a1 a2 a3 a4 a5 a6 a7 a8 a9 a10 := by
  intro cs
  induction cs with
  | nil =>
    intro d n st L a9 a10 hd hn hst _ hA ht0 ht H0 H1
    rw [List.length_nil] at hd hn hst
    have ed : d = m := by omega
    subst ed
    obtain ⟨n, rfl⟩ : ∃ k, n = k + 1 := ⟨n - 1, by omega⟩
    refine pk_le 40000 st (fun z => absurd z (by omega)) (fun _ => br_f (nI_pos (by omega)) ?_)
    rcases hx with rfl | ⟨hi, hj, rfl, rfl⟩
    · refine br_f (by decide) ?_
      unfold wX_search_105
      refine br_t rfl (br_f (by decide) ?_)
      unfold wX_search_137
      exact br_f (by decide) ⟨rfl, H1 L rfl 0 a9 a10 (fun z => absurd rfl z)⟩
    · refine br_t (nI_pos' (by omega)) ⟨pk_in (25 * d + (5 * i + j)) 225 (by omega) (by rw [dt_m25, dt_x3]), ?_⟩
      rw [pk_cl (25 * d + (5 * i + j)) (by rw [dt_m25, dt_x3]), hA.2 i j hi hj]
      unfold wX_search_105
      refine br_t rfl (br_c (fun z => ?_) (fun z => ?_))
      · unfold wX_search_137
        exact br_t (nI_pos' (by omega)) (nm_e (nm_r (nI_1 st) (dt_up hm (Or.inr ⟨hi, hj, rfl, rfl⟩) (Or.inr rfl) hC (fun s t => H1 L rfl _ s t (fun _ => by unfold dt_b; rw [if_pos z])) d n (st + 1) a9 a10 (by omega) (by omega) (by omega) ht)))
      · unfold wX_search_137
        exact br_t (nI_pos' (by omega)) (nm_e (nm_r (nI_1 st) (dt_up hm (Or.inr ⟨hi, hj, rfl, rfl⟩) (Or.inr rfl) hC (fun s t => H1 L rfl _ s t (fun _ => by unfold dt_b; rw [if_neg z])) d n (st + 1) a9 a10 (by omega) (by omega) (by omega) ht)))
  | cons k r ih =>
    intro d n st L a9 a10 hd hn hst hCs hA ht0 ht H0 H1
    obtain ⟨e, b, l⟩ := k
    obtain ⟨⟨he, hb, t4, t1, t2, t3⟩, hr⟩ := hCs
    rw [List.length_cons] at hd hn hst
    obtain ⟨n, rfl⟩ : ∃ k, n = k + 1 := ⟨n - 1, by omega⟩
    have key : ∀ z0, wX_search_105 post (wX_search_69 post x1 x2 n) x1 x2 0 (nI d) (nI st) z0 2 c ds (nI m) (-1) bad (-1000) a1 a2 a3 a4 a5 a6 a7 a8 a9 a10 := by
      intro z0
      unfold wX_search_105
      refine pk_eq d m (fun z => absurd z (by omega)) (fun _ => br_t rfl ?_)
      unfold wX_search_172
      refine dt_goDown (by omega) he hb t4 t1 t2 t3 ht0 hA (fun hs s t hst2 => ?_) (fun L' hs s t hs' h1 hst2 => ?_)
      · dsimp only
        refine br_t rfl (nm_e (nm_r (nI_1 st) (dt_up hm hx (Or.inl rfl) hC (fun s t => H0 ?_ s t) d n (st + 1) s t (by omega) (by omega) (by omega) (fun k hk => by rw [hst2 k (by omega)]; exact ht k hk))))
        show (match dt_st L e b l with | none => none | some L' => dt_run r L') = none
        rw [hs]
      · have er : dt_run ((e, b, l) :: r) L = dt_run r L' := by
          show (match dt_st L e b l with | none => none | some L' => dt_run r L') = dt_run r L'
          rw [hs]
        rw [er] at H0 H1
        dsimp only
        refine br_f (by decide) (nm_r (nI_1 d) ⟨pk_in (d + 1) 9 (by omega), nm_e (nm_r (nI_1 st) ?_)⟩)
        rw [nI_clamp (show d + 1 < 2 ^ 31 by omega)]
        refine ih (d + 1) n (st + 1) L' s _ (by omega) (by omega) (by omega) hr hs' pk_us (fun k hk => ?_) H0 H1
        rw [pk_un (by omega)]
        by_cases z : k = d
        · rw [z, h1]
        · rw [hst2 k z]
          exact ht k (by omega)
    refine pk_le 40000 st (fun z => absurd z (by omega)) (fun _ => br_f (nI_pos (by omega)) ?_)
    rcases hx with hx1 | ⟨hi, hj, hx1, hx2⟩
    · exact br_f (by rw [hx1]; decide) (key 0)
    · exact br_t (by rw [hx1]; exact nI_pos' (by omega)) ⟨pk_in (25 * d + (5 * i + j)) 225 (by omega) (by rw [hx1, hx2, dt_m25, dt_x3]), key _⟩
theorem dt_se {x1 x2 : Int32} {i j : Nat} {cs : List (Nat × Nat × Int32)} {S : Option (List Int32)} (hm : cs.length ≤ 8) (hx : x1 = -1 ∨ (i < 3 ∧ j < 3 ∧ x1 = nI i ∧ x2 = nI j))
    (hC : dt_C a1 a2 a3 a4 0 cs) (hS : dt_S bad a8 S)
    (H0 : dt_sr S cs = none → ∀ act bs s t, post 0 (2, nI cs.length, ds, act, -1, bad, bs, a1, a2, a3, a4, a5, a6, a7, a8, s, t))
    (H1 : ∀ L', dt_sr S cs = some L' → ∀ act bs s t, (¬ x1 = -1 → bs = dt_b (dt_g L' i j)) → post 1 (2, nI cs.length, ds, act, -1, bad, bs, a1, a2, a3, a4, a5, a6, a7, a8, s, t)) :
    wpX_search post (2, nI cs.length, ds, act, -1, bad, best, a1, a2, a3, a4, a5, a6, a7, a8, a9, a10) x1 x2 := by
  unfold wpX_search
  dsimp only
  cases S with
  | none =>
    have e : bad = 1 := hS
    exact br_f (by rw [e]; decide) (H0 rfl act best a9 a10)
  | some L =>
    obtain ⟨e, hA⟩ := hS
    refine br_t e ?_
    exact pk_loop (fun n k s => wX_search_32 post x1 x2 0 0 2 (nI cs.length) ds (nI cs.length) (-1) bad (-1000) n (nI k) a1 a2 a3 a4 a5 a6 a7 a8 s a10) (fun k s => ∀ j, j < k → s j = a8 j) 25 0 a9 (by omega) (fun j hj => absurd hj (by omega))
      (fun n s h => pk_le 25 25 (fun _ => nm_e ⟨2 * cs.length + 3, dt_down hm hx (fun d hd => dt_C_all cs 0 hC d (by omega) (by omega)) cs 0 _ 0 L s _ (by omega) (by omega) (by omega) hC ⟨hA.1, fun p q hp hq => by rw [h _ (by omega)]; exact hA.2 p q hp hq⟩ pk_us (fun k hk => absurd hk (by omega))
        (fun hr s t => H0 hr _ _ s t) (fun L' hr bs s t hb => H1 L' hr _ bs s t hb)⟩) (fun z => absurd z (by omega)))
      (fun n k s hk h hw => pk_le 25 k (fun z => absurd z (by omega)) (fun _ => ⟨pk_in k 25 hk, pk_in k 225 (by omega), nm_e (nm_r (nI_1 k) (hw _ (dt_fill (nI_clamp (by omega)) h (by rw [nI_clamp (by omega)]))))⟩))
end
end
section
/-! what the methods answer, over the constraints kept -/
def dt_wd (cs : List (Nat × Nat × Int32)) : Int32 := match dt_sr (some dt_L0) cs with
  | none => -200
  | some L => dt_b (dt_g L 0 1)
def dt_er (cs : List (Nat × Nat × Int32)) : Int32 := match dt_sr (some dt_L0) cs with
  | none => -2
  | some L => -(dt_b (dt_g L 2 0))
def dt_la (cs : List (Nat × Nat × Int32)) : Int32 := match dt_sr (some dt_L0) cs with
  | none => -2
  | some L => dt_b (dt_g L 0 2)
def dt_en (cs : List (Nat × Nat × Int32)) (e b : Nat) (l : Int32) : Int32 := match dt_sr (dt_ts (some dt_L0) b e (-l - 1)) cs with
  | none => 1
  | some _ => 0
def dt_sh (cs : List (Nat × Nat × Int32)) : Nat → Nat → Int32
  | 0, _ => -1
  | k + 1, last => match dt_sr (dt_ts (dt_ts (some dt_L0) 0 2 (nI last)) 1 2 (nI last)) cs with
    | none => dt_sh cs k (last + 1)
    | some _ => nI last
def dt_ff (cs : List (Nat × Nat × Int32)) : Nat → Nat → Option (List Int32) → Int32 → Int32
  | 0, _, _, x => x
  | k + 1, p, S, x => match dt_sr S cs with
    | none => -1
    | some L => dt_ff cs k (p + 1) (dt_ts S p 2 (-(dt_b (dt_g L 2 p)))) (8 * x + -(dt_b (dt_g L 2 p)))
def dt_nx (cs : List (Nat × Nat × Int32)) : Int32 := dt_ff cs 2 0 (dt_ts (some dt_L0) 2 0 (-0)) 0
section
variable {post : Int32 → St2 → Prop} {c ds act bad best : Int32} {a1 a2 a3 a4 a5 a6 a7 a8 a9 a10 : Nat → Int32} {cs : List (Nat × Nat × Int32)}
theorem dt_cm {S : Option (List Int32)} (hm : cs.length ≤ 8) (hC : dt_C a1 a2 a3 a4 0 cs) (hS : dt_S bad a8 S)
    (H0 : dt_sr S cs = none → ∀ act bs s t, post 0 (2, nI cs.length, ds, act, -1, bad, bs, a1, a2, a3, a4, a5, a6, a7, a8, s, t))
    (H1 : ∀ L', dt_sr S cs = some L' → ∀ act bs s t, post 1 (2, nI cs.length, ds, act, -1, bad, bs, a1, a2, a3, a4, a5, a6, a7, a8, s, t)) :
    wpX_canMeet post (2, nI cs.length, ds, act, -1, bad, best, a1, a2, a3, a4, a5, a6, a7, a8, a9, a10) := by
  unfold wpX_canMeet
  dsimp only
  exact dt_se (i := 0) (j := 0) hm (Or.inl rfl) hC hS (fun hr act bs s t => ⟨rfl, H0 hr act bs s t⟩) (fun L' hr act bs s t _ => ⟨rfl, H1 L' hr act bs s t⟩)
theorem dt_ip {ψ : Int32 → Prop} {sk : Int32} {p : Nat} (hp : p < 3) (H : ψ 1) : wpX_isPoint ψ (2, c, ds, act, sk, bad, best, a1, a2, a3, a4, a5, a6, a7, a8, a9, a10) (nI p) := by
  unfold wpX_isPoint
  dsimp only
  exact br_f (nI_pos (by omega)) (pk_lt 2 p (fun z => absurd z (by omega)) (fun _ => H))
theorem dt_ie {ψ : Int32 → Prop} {sk : Int32} {p : Nat} (hp : p < 2) (H : ψ 1) : wpX_isEvent ψ (2, c, ds, act, sk, bad, best, a1, a2, a3, a4, a5, a6, a7, a8, a9, a10) (nI p) := by
  unfold wpX_isEvent
  dsimp only
  exact br_f (nI_pos (by omega)) (pk_le 2 p (fun z => absurd z (by omega)) (fun _ => H))
theorem dt_widest (hm : cs.length ≤ 8) (hC : dt_C a1 a2 a3 a4 0 cs)
    (H : ∀ act bad best a8 a9 a10, post (dt_wd cs) (2, nI cs.length, ds, act, -1, bad, best, a1, a2, a3, a4, a5, a6, a7, a8, a9, a10)) :
    wpX_widest post (2, nI cs.length, ds, act, -1, bad, best, a1, a2, a3, a4, a5, a6, a7, a8, a9, a10) 0 1 := by
  unfold wpX_widest
  dsimp only
  refine dt_ip (p := 0) (by omega) (br_f (by decide) (dt_ip (p := 1) (by omega) (br_f (by decide) (dt_os (fun a ha => ?_)))))
  dsimp only
  refine dt_se (S := some dt_L0) (i := 0) (j := 1) hm (Or.inr ⟨by omega, by omega, rfl, rfl⟩) hC ⟨rfl, ha⟩ (fun hr act bs s t => ?_) (fun L' hr act bs s t hb => ?_)
  · have e : dt_wd cs = -200 := by unfold dt_wd; rw [hr]
    rw [e] at H
    exact br_t rfl (H act _ bs _ s t)
  · have e : dt_wd cs = bs := by unfold dt_wd; rw [hr, hb (by decide)]
    rw [e] at H
    exact br_f (by decide) (H act _ bs _ s t)
theorem dt_earliest (hm : cs.length ≤ 8) (hC : dt_C a1 a2 a3 a4 0 cs)
    (H : ∀ act bad best a8 a9 a10, post (dt_er cs) (2, nI cs.length, ds, act, -1, bad, best, a1, a2, a3, a4, a5, a6, a7, a8, a9, a10)) :
    wpX_earliest post (2, nI cs.length, ds, act, -1, bad, best, a1, a2, a3, a4, a5, a6, a7, a8, a9, a10) 0 := by
  unfold wpX_earliest
  dsimp only
  refine dt_ie (p := 0) (by omega) (br_f (by decide) (dt_os (fun a ha => ?_)))
  dsimp only
  refine dt_se (S := some dt_L0) (i := 2) (j := 0) hm (Or.inr ⟨by omega, by omega, rfl, rfl⟩) hC ⟨rfl, ha⟩ (fun hr act bs s t => ?_) (fun L' hr act bs s t hb => ?_)
  · have e : dt_er cs = -2 := by unfold dt_er; rw [hr]
    rw [e] at H
    exact br_t rfl (H act _ bs _ s t)
  · have e : dt_er cs = -bs := by unfold dt_er; rw [hr, hb (by decide)]
    rw [e] at H
    exact br_f (by decide) (H act _ bs _ s t)
theorem dt_latest (hm : cs.length ≤ 8) (hC : dt_C a1 a2 a3 a4 0 cs)
    (H : ∀ act bad best a8 a9 a10, post (dt_la cs) (2, nI cs.length, ds, act, -1, bad, best, a1, a2, a3, a4, a5, a6, a7, a8, a9, a10)) :
    wpX_latest post (2, nI cs.length, ds, act, -1, bad, best, a1, a2, a3, a4, a5, a6, a7, a8, a9, a10) 0 := by
  unfold wpX_latest
  dsimp only
  refine dt_ie (p := 0) (by omega) (br_f (by decide) (dt_os (fun a ha => ?_)))
  dsimp only
  refine dt_se (S := some dt_L0) (i := 0) (j := 2) hm (Or.inr ⟨by omega, by omega, rfl, rfl⟩) hC ⟨rfl, ha⟩ (fun hr act bs s t => ?_) (fun L' hr act bs s t hb => ?_)
  · have e : dt_la cs = -2 := by unfold dt_la; rw [hr]
    rw [e] at H
    exact br_t rfl (H act _ bs _ s t)
  · have e : dt_la cs = bs := by unfold dt_la; rw [hr, hb (by decide)]
    rw [e] at H
    exact br_f (by decide) (H act _ bs _ s t)
theorem dt_entailed0 (H : post (-1) (2, c, 0, act, -1, bad, best, a1, a2, a3, a4, a5, a6, a7, a8, a9, a10)) : wpX_entailed post (2, c, 0, act, -1, bad, best, a1, a2, a3, a4, a5, a6, a7, a8, a9, a10) := by
  unfold wpX_entailed
  dsimp only
  exact br_t rfl H
theorem dt_entailed {e b : Nat} {l : Int32} (hm : cs.length ≤ 8) (hC : dt_C a1 a2 a3 a4 0 cs) (he : e < 3) (hb : b < 3) (h5 : a5 0 = nI e) (h6 : a6 0 = nI b) (h7 : a7 0 = l)
    (H : ∀ act bad best a8 a9 a10, post (dt_en cs e b l) (2, nI cs.length, 1, act, -1, bad, best, a1, a2, a3, a4, a5, a6, a7, a8, a9, a10)) :
    wpX_entailed post (2, nI cs.length, 1, act, -1, bad, best, a1, a2, a3, a4, a5, a6, a7, a8, a9, a10) := by
  unfold wpX_entailed
  dsimp only
  refine br_f (by decide) (dt_os (fun a ha => ⟨0 + 1 + 1, ?_⟩))
  refine pk_le 1 0 (fun z => absurd z (by omega)) (fun _ => ⟨pk_in 0 3 (by omega), pk_in 0 3 (by omega), pk_in 0 3 (by omega), ?_⟩)
  dsimp only
  rw [sb_cl0, h5, h6, h7]
  refine dt_tst (S := some dt_L0) hb he ⟨rfl, ha⟩ (fun bad' a' hS => nm_r (e' := nI 1) rfl ?_)
  refine pk_le 1 1 (fun _ => dt_cm hm hC hS (fun hr act bs s t => ?_) (fun L' hr act bs s t => ?_)) (fun z => absurd z (by omega))
  · have e : dt_en cs e b l = 1 := by unfold dt_en; rw [hr]
    rw [e] at H
    exact br_t rfl (H act _ bs _ s t)
  · have e : dt_en cs e b l = 0 := by unfold dt_en; rw [hr]
    rw [e] at H
    exact br_f (by decide) (H act _ bs _ s t)
theorem dt_sh2 (hm : cs.length ≤ 8) (hC : dt_C a1 a2 a3 a4 0 cs) :
    ∀ (k last n : Nat) (act bad best : Int32) (a8 a9 a10 : Nat → Int32), k + last = 8 → k < n →
      (∀ act bad best a8 a9 a10, post (dt_sh cs k last) (2, nI cs.length, ds, act, -1, bad, best, a1, a2, a3, a4, a5, a6, a7, a8, a9, a10)) →
      wX_shortest_2 post n (nI last) 2 (nI cs.length) ds act (-1) bad best a1 a2 a3 a4 a5 a6 a7 a8 a9 a10 := by
  intro k
  induction k with
  | zero =>
    intro last n act bad best a8 a9 a10 hk hn H
    obtain ⟨n, rfl⟩ : ∃ k, n = k + 1 := ⟨n - 1, by omega⟩
    exact pk_lt 7 last (fun _ => H _ _ _ _ _ _) (fun z => absurd z (by omega))
  | succ k ih =>
    intro last n act bad best a8 a9 a10 hk hn H
    obtain ⟨n, rfl⟩ : ∃ k, n = k + 1 := ⟨n - 1, by omega⟩
    refine pk_lt 7 last (fun z => absurd z (by omega)) (fun _ => dt_os (fun a ha => ⟨0 + 1 + 1 + 1, ?_⟩))
    refine pk_le 2 0 (fun z => absurd z (by omega)) (fun _ => dt_tst (S := some dt_L0) (i := 0) (j := 2) (by omega) (by omega) ⟨rfl, ha⟩ (fun bad1 b1 hS1 => nm_r (e' := nI 1) rfl ?_))
    refine pk_le 2 1 (fun z => absurd z (by omega)) (fun _ => dt_tst (i := 1) (j := 2) (by omega) (by omega) hS1 (fun bad2 b2 hS2 => nm_r (e' := nI 2) rfl ?_))
    refine pk_le 2 2 (fun _ => dt_cm hm hC hS2 (fun hr act bs s t => ?_) (fun L' hr act bs s t => ?_)) (fun z => absurd z (by omega))
    · have e : dt_sh cs (k + 1) last = dt_sh cs k (last + 1) := by
        show (match dt_sr (dt_ts (dt_ts (some dt_L0) 0 2 (nI last)) 1 2 (nI last)) cs with | none => dt_sh cs k (last + 1) | some _ => nI last) = _
        rw [hr]
      rw [e] at H
      exact br_t rfl (nm_r (nI_1 last) (ih (last + 1) n act bad2 bs b2 s t (by omega) (by omega) H))
    · have e : dt_sh cs (k + 1) last = nI last := by
        show (match dt_sr (dt_ts (dt_ts (some dt_L0) 0 2 (nI last)) 1 2 (nI last)) cs with | none => dt_sh cs k (last + 1) | some _ => nI last) = _
        rw [hr]
      rw [e] at H
      exact br_f (by decide) (H act _ bs _ s t)
theorem dt_shortest (hm : cs.length ≤ 8) (hC : dt_C a1 a2 a3 a4 0 cs)
    (H : ∀ act bad best a8 a9 a10, post (dt_sh cs 8 0) (2, nI cs.length, ds, act, -1, bad, best, a1, a2, a3, a4, a5, a6, a7, a8, a9, a10)) :
    wpX_shortest post (2, nI cs.length, ds, act, -1, bad, best, a1, a2, a3, a4, a5, a6, a7, a8, a9, a10) := by
  unfold wpX_shortest
  dsimp only
  exact ⟨9, dt_sh2 hm hC 8 0 9 act bad best a8 a9 a10 (by omega) (by omega) H⟩
theorem dt_76 (hm : cs.length ≤ 8) (hC : dt_C a1 a2 a3 a4 0 cs) :
    ∀ (k p n : Nat) (S : Option (List Int32)) (x act bad best : Int32) (a8 a9 a10 : Nat → Int32), k + p = 2 → k < n → dt_S bad a8 S →
      (∀ act bad best a8 a9 a10, post (dt_ff cs k p S x) (2, nI cs.length, ds, act, -1, bad, best, a1, a2, a3, a4, a5, a6, a7, a8, a9, a10)) →
      wX_firstFrom_76 post n x (nI p) 2 (nI cs.length) ds act (-1) bad best a1 a2 a3 a4 a5 a6 a7 a8 a9 a10 := by
  intro k
  induction k with
  | zero =>
    intro p n S x act bad best a8 a9 a10 hk hn hS H
    obtain ⟨n, rfl⟩ : ∃ k, n = k + 1 := ⟨n - 1, by omega⟩
    exact pk_le 2 p (fun _ => H _ _ _ _ _ _) (fun z => absurd z (by omega))
  | succ k ih =>
    intro p n S x act bad best a8 a9 a10 hk hn hS H
    obtain ⟨n, rfl⟩ : ∃ k, n = k + 1 := ⟨n - 1, by omega⟩
    refine pk_le 2 p (fun z => absurd z (by omega)) (fun _ => dt_se (i := 2) (j := p) hm (Or.inr ⟨by omega, by omega, rfl, rfl⟩) hC hS (fun hr act bs s t => ?_) (fun L' hr act bs s t hb => ?_))
    · have e : dt_ff cs (k + 1) p S x = -1 := by
        unfold dt_ff
        rw [hr]
      rw [e] at H
      exact br_t rfl (H act _ bs _ s t)
    · have e : dt_ff cs (k + 1) p S x = dt_ff cs k (p + 1) (dt_ts S p 2 (-bs)) (8 * x + -bs) := by
        rw [hb (by decide)]
        show (match dt_sr S cs with | none => -1 | some L => dt_ff cs k (p + 1) (dt_ts S p 2 (-(dt_b (dt_g L 2 p)))) (8 * x + -(dt_b (dt_g L 2 p)))) = _
        rw [hr]
      rw [e] at H
      exact br_f (by decide) (nm_e (dt_tst (i := p) (j := 2) (by omega) (by omega) hS (fun bad' a' hS' => nm_e (nm_r (nI_1 p) (ih (p + 1) n _ _ act bad' bs a' s t (by omega) (by omega) hS' H)))))
theorem dt_next (hm : cs.length ≤ 8) (hC : dt_C a1 a2 a3 a4 0 cs)
    (H : ∀ act bad best a8 a9 a10, post (dt_nx cs) (2, nI cs.length, ds, act, -1, bad, best, a1, a2, a3, a4, a5, a6, a7, a8, a9, a10)) :
    wpX_next post (2, nI cs.length, ds, act, -1, bad, best, a1, a2, a3, a4, a5, a6, a7, a8, a9, a10) (-1) := by
  unfold wpX_next
  dsimp only
  refine nm_e (br_t (by decide) (br_f (by decide) ?_))
  unfold wpX_firstFrom
  dsimp only
  refine dt_os (fun a ha => ⟨0 + 1, ?_⟩)
  refine pk_le 0 0 (fun _ => dt_tst (S := some dt_L0) (i := 2) (j := 0) (by omega) (by omega) ⟨rfl, ha⟩ (fun bad' a' hS => ⟨3, ?_⟩)) (fun z => absurd z (by omega))
  exact dt_76 hm hC 2 0 3 _ 0 _ _ _ _ _ _ (by omega) (by omega) hS (fun act bad best a8 a9 a10 => H act bad best a8 a9 a10)
/-! the draft -/
theorem dt_alt0 {p q : Nat} {k : Int32} (hp : p < 3) (hq : q < 3) (hpq : p ≠ q) (hk : k < (-10) ∨ ¬ k ≤ 10)
    (H : post (-3) (2, c, 0, act, -1, bad, best, a1, a2, a3, a4, a5, a6, a7, a8, a9, a10)) : wpX_alternative post (2, c, 0, act, -1, bad, best, a1, a2, a3, a4, a5, a6, a7, a8, a9, a10) (nI p) (nI q) k := by
  unfold wpX_alternative
  dsimp only
  refine dt_ip hp (br_f (by decide) (dt_ip hq (br_f (by decide) (pk_eq p q (fun z => absurd z hpq) (fun _ => br_c (fun _ => H) (fun z => br_f (fun z2 => ?_) H))))))
  exact hk.elim z (fun g => g z2)
theorem dt_alt1 {p q : Nat} {k : Int32} (hp : p < 3) (hq : q < 3) (hpq : p ≠ q) (hk : ¬ k < (-10)) (hk2 : k ≤ 10)
    (H : post 1 (2, c, 1, act, -1, bad, best, a1, a2, a3, a4, upd a5 0 (nI p), upd a6 0 (nI q), upd a7 0 k, a8, a9, a10)) : wpX_alternative post (2, c, 0, act, -1, bad, best, a1, a2, a3, a4, a5, a6, a7, a8, a9, a10) (nI p) (nI q) k := by
  unfold wpX_alternative
  dsimp only
  refine dt_ip hp (br_f (by decide) (dt_ip hq (br_f (by decide) (pk_eq p q (fun z => absurd z hpq) (fun _ => br_f hk (br_t hk2 (br_f (by decide) ?_)))))))
  rw [sb_cl0]
  exact ⟨pk_in 0 3 (by omega), nm_e ⟨pk_in 0 3 (by omega), nm_e ⟨pk_in 0 3 (by omega), nm_e (nm_r (e' := 1) rfl H)⟩⟩⟩
theorem dt_add0 (H : post (-1) (2, c, 0, act, -1, bad, best, a1, a2, a3, a4, a5, a6, a7, a8, a9, a10)) : wpX_add post (2, c, 0, act, -1, bad, best, a1, a2, a3, a4, a5, a6, a7, a8, a9, a10) := by
  unfold wpX_add
  dsimp only
  exact br_t rfl H
theorem dt_C_snoc {b1 b2 b3 b4 : Nat → Int32} {e b : Nat} {l : Int32} (he : e < 3) (hb : b < 3) : ∀ (cs : List (Nat × Nat × Int32)) (o : Nat), dt_C a1 a2 a3 a4 o cs →
    (∀ d, d < o + cs.length → b1 (3 * d) = a1 (3 * d) ∧ b2 (3 * d) = a2 (3 * d) ∧ b3 (3 * d) = a3 (3 * d) ∧ b4 d = a4 d) →
    b4 (o + cs.length) = 1 → b1 (3 * (o + cs.length)) = nI e → b2 (3 * (o + cs.length)) = nI b → b3 (3 * (o + cs.length)) = l → dt_C b1 b2 b3 b4 o (cs ++ [(e, b, l)]) := by
  intro cs
  induction cs with
  | nil =>
    intro o _ _ h4 h1 h2 h3
    exact ⟨⟨he, hb, h4, h1, h2, h3⟩, trivial⟩
  | cons k r ih =>
    intro o h hk h4 h1 h2 h3
    obtain ⟨e', b', l'⟩ := k
    obtain ⟨⟨t1, t2, t3, t4, t5, t6⟩, hr⟩ := h
    rw [List.length_cons] at hk h4 h1 h2 h3
    obtain ⟨k1, k2, k3, k4⟩ := hk o (by omega)
    rw [show o + (r.length + 1) = (o + 1) + r.length by omega] at hk h4 h1 h2 h3
    exact ⟨⟨t1, t2, k4.trans t3, k1.trans t4, k2.trans t5, k3.trans t6⟩, ih (o + 1) hr hk h4 h1 h2 h3⟩
theorem dt_add1 {e b : Nat} {l : Int32} (hm : cs.length < 8) (hC : dt_C a1 a2 a3 a4 0 cs) (he : e < 3) (hb : b < 3) (h5 : a5 0 = nI e) (h6 : a6 0 = nI b) (h7 : a7 0 = l)
    (H : ∀ b1 b2 b3 b4, dt_C b1 b2 b3 b4 0 (cs ++ [(e, b, l)]) → post (nI (cs.length + 1)) (2, nI (cs ++ [(e, b, l)]).length, 0, act, -1, bad, best, b1, b2, b3, b4, a5, a6, a7, a8, a9, a10)) :
    wpX_add post (2, nI cs.length, 1, act, -1, bad, best, a1, a2, a3, a4, a5, a6, a7, a8, a9, a10) := by
  unfold wpX_add
  dsimp only
  refine br_f (by decide) (pk_eq cs.length 8 (fun z => absurd z (by omega)) (fun _ => ⟨pk_in cs.length 8 hm, nm_e ⟨0 + 1 + 1, ?_⟩⟩))
  refine pk_le 1 0 (fun z => absurd z (by omega)) (fun _ => ⟨pk_in 0 3 (by omega), pk_in 0 3 (by omega), pk_in 0 3 (by omega), ?_⟩)
  rw [sb_cl0, h5, h6, h7, nI_clamp (show cs.length < 2 ^ 31 by omega)]
  unfold wpX_offer
  dsimp only
  rw [nI_clamp (show cs.length < 2 ^ 31 by omega), pk_us]
  refine ⟨pk_in cs.length 8 hm, nm_r (e' := nI (3 * cs.length)) (by rw [dt_m3]; exact Int32.add_zero _) ?_⟩
  rw [nI_clamp (show 3 * cs.length < 2 ^ 31 by omega)]
  refine ⟨pk_in (3 * cs.length) 24 (by omega), nm_e ⟨pk_in (3 * cs.length) 24 (by omega), nm_e ⟨pk_in (3 * cs.length) 24 (by omega), nm_e ⟨pk_in cs.length 8 hm, pk_in cs.length 8 hm, nm_e (nm_r (e' := nI 1) rfl ?_)⟩⟩⟩⟩
  refine pk_le 1 1 (fun _ => nm_r (nI_1 cs.length) ?_) (fun z => absurd z (by omega))
  have t := H (upd a1 (3 * cs.length) (nI e)) (upd a2 (3 * cs.length) (nI b)) (upd a3 (3 * cs.length) l) (upd (upd a4 cs.length 0) cs.length (0 + 1)) (dt_C_snoc he hb cs 0 hC (fun d hd => ?_) ?_ ?_ ?_ ?_)
  · rw [show (cs ++ [(e, b, l)]).length = cs.length + 1 by rw [List.length_append]; rfl] at t
    exact t
  · rw [Nat.zero_add] at hd
    exact ⟨pk_un (by omega), pk_un (by omega), pk_un (by omega), by rw [pk_un (by omega), pk_un (by omega)]⟩
  · rw [Nat.zero_add, pk_us]
    rfl
  · rw [Nat.zero_add, pk_us]
  · rw [Nat.zero_add, pk_us]
  · rw [Nat.zero_add, pk_us]
end
end
section
/-! what the law expects, and the evaluation by the kernel -/
def dt_hi (x3 a : Int32) : Int32 := if x3 = 0 then 7 else if 7 ≤ a then 7 else a
def dt_li (b : Int32) : Int32 := if -b ≤ (-7) then (-7) else -b
def dt_FX (cs : List (Nat × Nat × Int32)) (x5 x8 x7 : Int32) : Prop :=
  dt_wd cs = (if x7 = 0 then (-200) else x5) ∧
  dt_er cs = (if x7 = 0 then (-2) else if x8 ≤ 0 then 0 else x8) ∧
  dt_la cs = (if x7 = 0 then (-2) else if 0 ≤ x5 then 7 else 7 + x5) ∧
  dt_sh cs 8 0 = (if x7 = 0 then (-1) else if x8 ≤ 0 then (if 0 ≤ x5 then 0 else -x5) else x8) ∧
  dt_nx cs = (if x7 = 0 then (-1) else if x8 ≤ 0 then (if 0 ≤ x5 then 0 else -x5) else 8 * x8)
def dt_F (cs : List (Nat × Nat × Int32)) (x5 x8 : Int32) : Prop := dt_FX cs x5 x8 (if x5 < x8 then 0 else 1)
def dt_N (cs : List (Nat × Nat × Int32)) (b x5 : Int32) : Prop := dt_en cs 1 0 b = if dt_li b = (-7) then 1 else if (if x5 < (-7) then (0 : Int32) else 1) = 0 then 1 else 0
def dt_v (t : Nat) : Int32 := Int32.ofInt ((t : Int) - 10)
def dt_FB (cs : List (Nat × Nat × Int32)) (x5 x8 x7 : Int32) : Bool :=
  decide (dt_wd cs = (if x7 = 0 then (-200) else x5)) &&
  (decide (dt_er cs = (if x7 = 0 then (-2) else if x8 ≤ 0 then 0 else x8)) &&
  (decide (dt_la cs = (if x7 = 0 then (-2) else if 0 ≤ x5 then 7 else 7 + x5)) &&
  (decide (dt_sh cs 8 0 = (if x7 = 0 then (-1) else if x8 ≤ 0 then (if 0 ≤ x5 then 0 else -x5) else x8)) &&
  decide (dt_nx cs = (if x7 = 0 then (-1) else if x8 ≤ 0 then (if 0 ≤ x5 then 0 else -x5) else 8 * x8)))))
theorem dt_FBF {cs : List (Nat × Nat × Int32)} {x5 x8 : Int32} (h : dt_FB cs x5 x8 (if x5 < x8 then 0 else 1) = true) : dt_F cs x5 x8 := by
  unfold dt_FB at h
  rw [Bool.and_eq_true, Bool.and_eq_true, Bool.and_eq_true, Bool.and_eq_true] at h
  exact ⟨of_decide_eq_true h.1, of_decide_eq_true h.2.1, of_decide_eq_true h.2.2.1, of_decide_eq_true h.2.2.2.1, of_decide_eq_true h.2.2.2.2⟩
theorem dt_rng {a : Int32} (h1 : ¬ a < (-10)) (h2 : a ≤ 10) : ∃ t, t < 21 ∧ a = dt_v t := by
  rw [Int32.lt_iff_toInt_lt, show (-10 : Int32).toInt = -10 by decide] at h1
  rw [Int32.le_iff_toInt_le, show (10 : Int32).toInt = 10 by decide] at h2
  refine ⟨(a.toInt + 10).toNat, by omega, ?_⟩
  unfold dt_v
  rw [show (((a.toInt + 10).toNat : Nat) : Int) - 10 = a.toInt by omega, Int32.ofInt_toInt]
theorem dt_E00 : dt_FB [] 7 (-7) (if (7 : Int32) < (-7) then 0 else 1) = true := by decide +kernel
theorem dt_E10 : ∀ t, t < 21 → dt_FB [(0, 1, dt_v t)] (dt_hi 1 (dt_v t)) (-7) (if dt_hi 1 (dt_v t) < (-7) then 0 else 1) = true := by decide +kernel
theorem dt_E01 : ∀ u, u < 21 → dt_FB [(1, 0, dt_v u)] 7 (dt_li (dt_v u)) (if 7 < dt_li (dt_v u) then 0 else 1) = true := by decide +kernel
theorem dt_N0 : ∀ u, u < 21 → decide (dt_en [] 1 0 (dt_v u) = if dt_li (dt_v u) = (-7) then 1 else if (if (7 : Int32) < (-7) then (0 : Int32) else 1) = 0 then 1 else 0) = true := by decide +kernel
theorem dt_N1 : ∀ t, t < 21 → ∀ u, u < 21 → decide (dt_en [(0, 1, dt_v t)] 1 0 (dt_v u) = if dt_li (dt_v u) = (-7) then 1 else if (if dt_hi 1 (dt_v t) < (-7) then (0 : Int32) else 1) = 0 then 1 else 0) = true := by decide +kernel
end
section
theorem dt_E11 : ∀ t, t < 21 → ∀ u, u < 21 → dt_FB [(0, 1, dt_v t), (1, 0, dt_v u)] (dt_hi 1 (dt_v t)) (dt_li (dt_v u)) (if dt_hi 1 (dt_v t) < dt_li (dt_v u) then 0 else 1) = true := by decide +kernel
end
section
section
variable {post : Int32 → St0 → Prop} {mc ms kc ks : Nat} {x0 x1 x3 x4 x5 x6 x7 x8 z0 z1 c ds act bad best : Int32} {a1 a2 a3 a4 a5 a6 a7 a8 a9 a10 : Nat → Int32} {cs : List (Nat × Nat × Int32)}
theorem dt_l401 (H : post 1 ()) (hm : cs.length ≤ 8) (hC : dt_C a1 a2 a3 a4 0 cs) (h : dt_nx cs = if x7 = 0 then (-1) else z0) :
    wL_lawOf_401 post mc ms x7 z0 kc ks 2 (nI cs.length) ds act (-1) bad best a1 a2 a3 a4 a5 a6 a7 a8 a9 a10 := by
  unfold wL_lawOf_401
  refine dt_next hm hC (fun act bad best a8 a9 a10 => ?_)
  exact br_c (fun g => br_t (by rw [h, if_pos g]) H) (fun g => br_t (by rw [h, if_neg g]) H)
theorem dt_l371 (H : post 1 ()) (hm : cs.length ≤ 8) (hC : dt_C a1 a2 a3 a4 0 cs) (hF : dt_FX cs x5 x8 x7) (hz : z1 = z0) :
    wL_lawOf_371 post mc ms x5 x7 x8 z0 z1 kc ks 2 (nI cs.length) ds act (-1) bad best a1 a2 a3 a4 a5 a6 a7 a8 a9 a10 := by
  unfold wL_lawOf_371
  have h := hF.2.2.2.2
  refine br_t hz (br_c (fun g => br_c (fun g2 => dt_l401 H hm hC ?_) (fun g2 => dt_l401 H hm hC ?_)) (fun g => dt_l401 H hm hC ?_))
  · rw [h, if_pos g, if_pos g2]
  · rw [h, if_pos g, if_neg g2]
  · rw [h, if_neg g]
theorem dt_l354 (H : post 1 ()) (hm : cs.length ≤ 8) (hC : dt_C a1 a2 a3 a4 0 cs) (hF : dt_FX cs x5 x8 x7) (h : dt_sh cs 8 0 = if x7 = 0 then (-1) else z0) :
    wL_lawOf_354 post mc ms x5 x7 x8 z0 kc ks 2 (nI cs.length) ds act (-1) bad best a1 a2 a3 a4 a5 a6 a7 a8 a9 a10 := by
  unfold wL_lawOf_354
  refine dt_shortest hm hC (fun act bad best a8 a9 a10 => ?_)
  exact br_c (fun g => dt_l371 H hm hC hF (by rw [h, if_pos g])) (fun g => dt_l371 H hm hC hF (by rw [h, if_neg g]))
theorem dt_l327 (H : post 1 ()) (hm : cs.length ≤ 8) (hC : dt_C a1 a2 a3 a4 0 cs) (hF : dt_FX cs x5 x8 x7) (hz : z1 = z0) :
    wL_lawOf_327 post mc ms x5 x7 x8 z0 z1 kc ks 2 (nI cs.length) ds act (-1) bad best a1 a2 a3 a4 a5 a6 a7 a8 a9 a10 := by
  unfold wL_lawOf_327
  have h := hF.2.2.2.1
  refine br_t hz (br_c (fun g => br_c (fun g2 => dt_l354 H hm hC hF ?_) (fun g2 => dt_l354 H hm hC hF ?_)) (fun g => dt_l354 H hm hC hF ?_))
  · rw [h, if_pos g, if_pos g2]
  · rw [h, if_pos g, if_neg g2]
  · rw [h, if_neg g]
theorem dt_l292 (H : post 1 ()) (hm : cs.length ≤ 8) (hC : dt_C a1 a2 a3 a4 0 cs) (hF : dt_FX cs x5 x8 x7) (hz : z1 = z0) :
    wL_lawOf_292 post mc ms x5 x7 x8 z0 z1 kc ks 2 (nI cs.length) ds act (-1) bad best a1 a2 a3 a4 a5 a6 a7 a8 a9 a10 := by
  unfold wL_lawOf_292
  have h := hF.2.2.1
  refine br_t hz (dt_latest hm hC (fun act bad best a8 a9 a10 => ?_))
  exact br_c (fun g => dt_l327 H hm hC hF (by rw [h, if_pos g])) (fun g => br_c (fun g2 => dt_l327 H hm hC hF (by rw [h, if_neg g, if_pos g2])) (fun g2 => dt_l327 H hm hC hF (by rw [h, if_neg g, if_neg g2])))
theorem dt_l261 (H : post 1 ()) (hm : cs.length ≤ 8) (hC : dt_C a1 a2 a3 a4 0 cs) (hF : dt_FX cs x5 x8 x7) (hz : z1 = z0) :
    wL_lawOf_261 post mc ms x5 x7 x8 z0 z1 kc ks 2 (nI cs.length) ds act (-1) bad best a1 a2 a3 a4 a5 a6 a7 a8 a9 a10 := by
  unfold wL_lawOf_261
  have h := hF.2.1
  refine br_t hz (dt_earliest hm hC (fun act bad best a8 a9 a10 => ?_))
  exact br_c (fun g => dt_l292 H hm hC hF (by rw [h, if_pos g])) (fun g => br_c (fun g2 => dt_l292 H hm hC hF (by rw [h, if_neg g, if_pos g2])) (fun g2 => dt_l292 H hm hC hF (by rw [h, if_neg g, if_neg g2])))
theorem dt_l240 (H : post 1 ()) (hm : cs.length ≤ 8) (hC : dt_C a1 a2 a3 a4 0 cs) (hF : dt_FX cs x5 x8 x7) :
    wL_lawOf_240 post mc ms x5 x8 x7 kc ks 2 (nI cs.length) ds act (-1) bad best a1 a2 a3 a4 a5 a6 a7 a8 a9 a10 := by
  unfold wL_lawOf_240
  have h := hF.1
  refine dt_widest hm hC (fun act bad best a8 a9 a10 => ?_)
  exact br_c (fun g => dt_l261 H hm hC hF (by rw [h, if_pos g])) (fun g => dt_l261 H hm hC hF (by rw [h, if_neg g]))
theorem dt_l223 (H : post 1 ()) (hm : cs.length ≤ 8) (hC : dt_C a1 a2 a3 a4 0 cs) (hF : dt_F cs x5 x8) (hz : z1 = z0) :
    wL_lawOf_223 post mc ms x5 x8 z0 z1 kc ks 2 (nI cs.length) ds act (-1) bad best a1 a2 a3 a4 a5 a6 a7 a8 a9 a10 := by
  unfold wL_lawOf_223
  unfold dt_F at hF
  refine br_t hz (br_c (fun g => ?_) (fun g => ?_))
  · rw [if_pos g] at hF
    exact dt_l240 H hm hC hF
  · rw [if_neg g] at hF
    exact dt_l240 H hm hC hF
theorem dt_l196a (H : post 1 ()) (hm : cs.length ≤ 8) (hC : dt_C a1 a2 a3 a4 0 cs) (hF : dt_F cs x5 x8) (h4 : x4 = 0) (hz : z1 = z0) :
    wL_lawOf_196 post mc ms x3 x4 x5 x8 z0 z1 kc ks 2 (nI cs.length) 0 act (-1) bad best a1 a2 a3 a4 a5 a6 a7 a8 a9 a10 := by
  unfold wL_lawOf_196
  exact br_t hz (dt_add0 (br_t h4 (dt_l223 H hm hC hF rfl)))
theorem dt_l196b (H : post 1 ()) (hm : cs.length ≤ 7) (hC : dt_C a1 a2 a3 a4 0 cs) (hF : dt_F (cs ++ [(1, 0, x1)]) x5 x8) (h4 : ¬ x4 = 0) (hl : nI (cs.length + 1) = if x3 = 0 then 1 else 2)
    (h5 : a5 0 = nI 1) (h6 : a6 0 = nI 0) (h7 : a7 0 = x1) (hz : z1 = z0) :
    wL_lawOf_196 post mc ms x3 x4 x5 x8 z0 z1 kc ks 2 (nI cs.length) 1 act (-1) bad best a1 a2 a3 a4 a5 a6 a7 a8 a9 a10 := by
  unfold wL_lawOf_196
  refine br_t hz (dt_add1 (by omega) hC (by omega) (by omega) h5 h6 h7 (fun b1 b2 b3 b4 hC' => ?_))
  have hm' : (cs ++ [(1, 0, x1)]).length ≤ 8 := by rw [List.length_append]; show cs.length + 1 ≤ 8; omega
  exact br_f h4 (br_c (fun g => dt_l223 H hm' hC' hF (by rw [hl, if_pos g])) (fun g => dt_l223 H hm' hC' hF (by rw [hl, if_neg g])))
theorem dt_l164a (H : post 1 ()) (hm : cs.length ≤ 8) (hC : dt_C a1 a2 a3 a4 0 cs) (hF : dt_F cs x5 z0) (h4 : x4 = 0) :
    wL_lawOf_164 post mc ms x3 x4 x5 x6 x7 z0 kc ks 2 (nI cs.length) 0 act (-1) bad best a1 a2 a3 a4 a5 a6 a7 a8 a9 a10 := by
  unfold wL_lawOf_164
  exact dt_entailed0 (br_t h4 (dt_l196a H hm hC hF h4 rfl))
theorem dt_l164b (H : post 1 ()) (hm : cs.length ≤ 7) (hC : dt_C a1 a2 a3 a4 0 cs) (hF : dt_F (cs ++ [(1, 0, x1)]) x5 z0) (h4 : ¬ x4 = 0) (hl : nI (cs.length + 1) = if x3 = 0 then 1 else 2)
    (h5 : a5 0 = nI 1) (h6 : a6 0 = nI 0) (h7 : a7 0 = x1) (hE : dt_en cs 1 0 x1 = if z0 = x6 then 1 else if x7 = 0 then 1 else 0) :
    wL_lawOf_164 post mc ms x3 x4 x5 x6 x7 z0 kc ks 2 (nI cs.length) 1 act (-1) bad best a1 a2 a3 a4 a5 a6 a7 a8 a9 a10 := by
  unfold wL_lawOf_164
  refine dt_entailed (by omega) hC (by omega) (by omega) h5 h6 h7 (fun act bad best a8 a9 a10 => ?_)
  exact br_f h4 (br_c (fun g => dt_l196b H hm hC hF h4 hl h5 h6 h7 (by rw [hE, if_pos g])) (fun g => br_c (fun g2 => dt_l196b H hm hC hF h4 hl h5 h6 h7 (by rw [hE, if_neg g, if_pos g2])) (fun g2 => dt_l196b H hm hC hF h4 hl h5 h6 h7 (by rw [hE, if_neg g, if_neg g2]))))
theorem dt_l143a (H : post 1 ()) (hm : cs.length ≤ 8) (hC : dt_C a1 a2 a3 a4 0 cs) (hF : dt_F cs x5 x6) (h4 : x4 = 0) :
    wL_lawOf_143 post mc ms x1 x3 x4 x5 x6 x7 kc ks 2 (nI cs.length) 0 act (-1) bad best a1 a2 a3 a4 a5 a6 a7 a8 a9 a10 := by
  unfold wL_lawOf_143
  exact br_t h4 (dt_l164a H hm hC hF h4)
theorem dt_l143b (H : post 1 ()) (hm : cs.length ≤ 7) (hC : dt_C a1 a2 a3 a4 0 cs) (hF : dt_F (cs ++ [(1, 0, x1)]) x5 (dt_li x1)) (h4 : ¬ x4 = 0) (hl : nI (cs.length + 1) = if x3 = 0 then 1 else 2)
    (h5 : a5 0 = nI 1) (h6 : a6 0 = nI 0) (h7 : a7 0 = x1) (hE : dt_en cs 1 0 x1 = if dt_li x1 = (-7) then 1 else if x7 = 0 then 1 else 0) :
    wL_lawOf_143 post mc ms x1 x3 x4 x5 (-7) x7 kc ks 2 (nI cs.length) 1 act (-1) bad best a1 a2 a3 a4 a5 a6 a7 a8 a9 a10 := by
  unfold wL_lawOf_143
  unfold dt_li at hF hE
  refine br_f h4 (br_c (fun g => ?_) (fun g => ?_))
  · rw [if_pos g] at hF hE
    exact dt_l164b H hm hC hF h4 hl h5 h6 h7 hE
  · rw [if_neg g] at hF hE
    exact dt_l164b H hm hC hF h4 hl h5 h6 h7 hE
theorem dt_l125a (H : post 1 ()) (hm : cs.length ≤ 8) (hC : dt_C a1 a2 a3 a4 0 cs) (hF : dt_F cs x5 (-7)) (h4 : x4 = 0) :
    wL_lawOf_125 post mc ms x1 x3 x4 x5 kc ks 2 (nI cs.length) 0 act (-1) bad best a1 a2 a3 a4 a5 a6 a7 a8 a9 a10 := by
  unfold wL_lawOf_125
  exact br_c (fun _ => dt_l143a H hm hC hF h4) (fun _ => dt_l143a H hm hC hF h4)
theorem dt_l125b (H : post 1 ()) (hm : cs.length ≤ 7) (hC : dt_C a1 a2 a3 a4 0 cs) (hF : dt_F (cs ++ [(1, 0, x1)]) x5 (dt_li x1)) (h4 : ¬ x4 = 0) (hl : nI (cs.length + 1) = if x3 = 0 then 1 else 2)
    (h5 : a5 0 = nI 1) (h6 : a6 0 = nI 0) (h7 : a7 0 = x1) (hE : dt_N cs x1 x5) :
    wL_lawOf_125 post mc ms x1 x3 x4 x5 kc ks 2 (nI cs.length) 1 act (-1) bad best a1 a2 a3 a4 a5 a6 a7 a8 a9 a10 := by
  unfold wL_lawOf_125
  unfold dt_N at hE
  refine br_c (fun g => ?_) (fun g => ?_)
  · rw [if_pos g] at hE
    exact dt_l143b H hm hC hF h4 hl h5 h6 h7 hE
  · rw [if_neg g] at hE
    exact dt_l143b H hm hC hF h4 hl h5 h6 h7 hE
theorem dt_l104a (H : post 1 ()) (hm : cs.length ≤ 8) (hC : dt_C a1 a2 a3 a4 0 cs) (hF : dt_F cs (dt_hi x3 x0) (-7)) (h4 : x4 = 0) (hz : z1 = z0) :
    wL_lawOf_104 post mc ms x0 x1 x3 x4 z0 z1 kc ks 2 (nI cs.length) 0 act (-1) bad best a1 a2 a3 a4 a5 a6 a7 a8 a9 a10 := by
  unfold wL_lawOf_104
  unfold dt_hi at hF
  refine br_t hz (br_c (fun g => ?_) (fun g => br_c (fun g2 => ?_) (fun g2 => ?_)))
  · rw [if_pos g] at hF
    exact dt_l125a H hm hC hF h4
  · rw [if_neg g, if_pos g2] at hF
    exact dt_l125a H hm hC hF h4
  · rw [if_neg g, if_neg g2] at hF
    exact dt_l125a H hm hC hF h4
theorem dt_l104b (H : post 1 ()) (hm : cs.length ≤ 7) (hC : dt_C a1 a2 a3 a4 0 cs) (hF : dt_F (cs ++ [(1, 0, x1)]) (dt_hi x3 x0) (dt_li x1)) (h4 : ¬ x4 = 0) (hl : nI (cs.length + 1) = if x3 = 0 then 1 else 2)
    (h5 : a5 0 = nI 1) (h6 : a6 0 = nI 0) (h7 : a7 0 = x1) (hE : dt_N cs x1 (dt_hi x3 x0)) (hz : z1 = z0) :
    wL_lawOf_104 post mc ms x0 x1 x3 x4 z0 z1 kc ks 2 (nI cs.length) 1 act (-1) bad best a1 a2 a3 a4 a5 a6 a7 a8 a9 a10 := by
  unfold wL_lawOf_104
  unfold dt_hi at hF hE
  refine br_t hz (br_c (fun g => ?_) (fun g => br_c (fun g2 => ?_) (fun g2 => ?_)))
  · rw [if_pos g] at hF hE
    exact dt_l125b H hm hC hF h4 hl h5 h6 h7 hE
  · rw [if_neg g, if_pos g2] at hF hE
    exact dt_l125b H hm hC hF h4 hl h5 h6 h7 hE
  · rw [if_neg g, if_neg g2] at hF hE
    exact dt_l125b H hm hC hF h4 hl h5 h6 h7 hE
/-- what the law's second half asks: b out of range, or in it -/
def dt_G (cs : List (Nat × Nat × Int32)) (x3 x4 x0 x1 : Int32) : Prop :=
  (x4 = 0 ∧ (x1 < (-10) ∨ ¬ x1 ≤ 10) ∧ dt_F cs (dt_hi x3 x0) (-7)) ∨
  (¬ x4 = 0 ∧ ¬ x1 < (-10) ∧ x1 ≤ 10 ∧ dt_F (cs ++ [(1, 0, x1)]) (dt_hi x3 x0) (dt_li x1) ∧ dt_N cs x1 (dt_hi x3 x0))
theorem dt_l81 (H : post 1 ()) (hm : cs.length ≤ 7) (hC : dt_C a1 a2 a3 a4 0 cs) (hG : dt_G cs x3 x4 x0 x1) (hl : nI (cs.length + 1) = if x3 = 0 then 1 else 2) (hz : z1 = z0) :
    wL_lawOf_81 post mc ms x0 x1 x3 x4 z0 z1 kc ks 2 (nI cs.length) 0 act (-1) bad best a1 a2 a3 a4 a5 a6 a7 a8 a9 a10 := by
  unfold wL_lawOf_81
  refine br_t hz ?_
  rcases hG with ⟨h4, ho, hF⟩ | ⟨h4, g1, g2, hF, hE⟩
  · exact dt_alt0 (p := 1) (q := 0) (by omega) (by omega) (by omega) ho (br_t h4 (dt_l104a H (by omega) hC hF h4 rfl))
  · exact dt_alt1 (p := 1) (q := 0) (by omega) (by omega) (by omega) g1 g2 (br_f h4 (dt_l104b H hm hC hF h4 hl pk_us pk_us pk_us hE rfl))
theorem dt_l63a (H : post 1 ()) (h3 : x3 = 0) (hG : dt_G [] x3 x4 x0 x1) (hz : z1 = z0) :
    wL_lawOf_63 post mc ms x0 x1 x3 x4 z0 z1 kc ks 2 0 0 act (-1) bad best a1 a2 a3 a4 a5 a6 a7 a8 a9 a10 := by
  unfold wL_lawOf_63
  exact br_t hz (dt_add0 (br_t h3 (dt_l81 (cs := []) H (by decide) trivial hG (by rw [if_pos h3]; rfl) rfl)))
theorem dt_l63b (H : post 1 ()) (h3 : ¬ x3 = 0) (hG : dt_G [(0, 1, x0)] x3 x4 x0 x1) (h5 : a5 0 = nI 0) (h6 : a6 0 = nI 1) (h7 : a7 0 = x0) (hz : z1 = z0) :
    wL_lawOf_63 post mc ms x0 x1 x3 x4 z0 z1 kc ks 2 0 1 act (-1) bad best a1 a2 a3 a4 a5 a6 a7 a8 a9 a10 := by
  unfold wL_lawOf_63
  exact br_t hz (dt_add1 (cs := []) (by decide) trivial (by omega) (by omega) h5 h6 h7 (fun b1 b2 b3 b4 hC => br_f h3 (dt_l81 (cs := [(0, 1, x0)]) H (by show 1 ≤ 7; omega) hC hG (by rw [if_neg h3]; rfl) rfl)))
theorem dt_l44 (H : post 1 ()) (hG : (x3 = 0 ∧ (x0 < (-10) ∨ ¬ x0 ≤ 10) ∧ dt_G [] x3 x4 x0 x1) ∨ (¬ x3 = 0 ∧ ¬ x0 < (-10) ∧ x0 ≤ 10 ∧ dt_G [(0, 1, x0)] x3 x4 x0 x1)) :
    wL_lawOf_44 post mc ms x0 x1 x3 x4 kc ks 2 0 0 act (-1) bad best a1 a2 a3 a4 a5 a6 a7 a8 a9 a10 := by
  unfold wL_lawOf_44
  rcases hG with ⟨h3, ho, hG⟩ | ⟨h3, g1, g2, hG⟩
  · exact dt_alt0 (p := 0) (q := 1) (by omega) (by omega) (by omega) ho (br_t h3 (dt_l63a H h3 hG rfl))
  · exact dt_alt1 (p := 0) (q := 1) (by omega) (by omega) (by omega) g1 g2 (br_f h3 (dt_l63b H h3 hG pk_us pk_us pk_us rfl))
theorem dt_l26 (H : post 1 ()) (hG : (x3 = 0 ∧ (x0 < (-10) ∨ ¬ x0 ≤ 10)) ∨ (x3 = 1 ∧ ¬ x0 < (-10) ∧ x0 ≤ 10)) :
    wL_lawOf_26 post mc ms x0 x1 x3 kc ks 2 0 0 act (-1) bad best a1 a2 a3 a4 a5 a6 a7 a8 a9 a10 := by
  have out : (x1 < (-10) ∨ ¬ x1 ≤ 10) → wL_lawOf_44 post mc ms x0 x1 x3 0 kc ks 2 0 0 act (-1) bad best a1 a2 a3 a4 a5 a6 a7 a8 a9 a10 := by
    intro ho
    refine dt_l44 H ?_
    rcases hG with ⟨h3, h0⟩ | ⟨h3, g1, g2⟩
    · exact Or.inl ⟨h3, h0, Or.inl ⟨rfl, ho, by rw [h3]; exact dt_FBF dt_E00⟩⟩
    · obtain ⟨t, ht, rfl⟩ := dt_rng g1 g2
      exact Or.inr ⟨by rw [h3]; decide, g1, g2, Or.inl ⟨rfl, ho, by rw [h3]; exact dt_FBF (dt_E10 t ht)⟩⟩
  unfold wL_lawOf_26
  refine br_c (fun z => out (Or.inl z)) (fun z => br_c (fun z2 => out (Or.inr (Int32.not_le.mpr z2))) (fun z2 => dt_l44 H ?_))
  have z3 : x1 ≤ 10 := Int32.not_lt.mp z2
  obtain ⟨u, hu, hv⟩ := dt_rng z z3
  rcases hG with ⟨h3, h0⟩ | ⟨h3, g1, g2⟩
  · refine Or.inl ⟨h3, h0, Or.inr ⟨by decide, z, z3, ?_, ?_⟩⟩
    · rw [h3, hv]
      exact dt_FBF (dt_E01 u hu)
    · rw [h3, hv]
      have t := of_decide_eq_true (dt_N0 u hu)
      exact t
  · obtain ⟨t, ht, hw⟩ := dt_rng g1 g2
    refine Or.inr ⟨by rw [h3]; decide, g1, g2, Or.inr ⟨by decide, z, z3, ?_, ?_⟩⟩
    · rw [h3, hv, hw]
      exact dt_FBF (dt_E11 t ht u hu)
    · rw [h3, hv, hw]
      have w := of_decide_eq_true (dt_N1 t ht u hu)
      exact w
theorem dt_law {p0 p1 : Int32} (H : post 1 ()) : wpL_lawOf post 11 365 () p0 p1 := by
  unfold wpL_lawOf
  refine ⟨by omega, by omega, 10, 348, by omega, by omega, ?_⟩
  unfold wpX_init
  dsimp only
  refine ⟨by omega, by omega, by omega, by omega, by omega, by omega, by omega, by omega, by omega, by omega, by omega, by omega, by omega, by omega, by omega, by omega, by omega, by omega, by omega, by omega, br_t (by decide) ?_⟩
  unfold wX_init_93
  refine br_t (by decide) ?_
  exact br_c (fun z => dt_l26 H (Or.inl ⟨rfl, Or.inl z⟩)) (fun z => br_c (fun z2 => dt_l26 H (Or.inl ⟨rfl, Or.inr (Int32.not_le.mpr z2)⟩)) (fun z2 => dt_l26 H (Or.inr ⟨rfl, z, Int32.not_lt.mp z2⟩)))
end
theorem dt_cell {post : Int32 → Prop} {L : Nat} {xs : Nat → Int32} {k : Nat} (hL : L ≤ 2) (hk : k < 2) (H : ∀ x, post x) : wpL_cellAt post L xs () (nI k) := by
  unfold wpL_cellAt
  exact pk_le L k (fun _ => H _) (fun z => ⟨pk_in k L z, H _⟩)
/-! ===== WHAT IS OWED for DisjunctiveTimesLaw: one statement: the law answers true on every script of L ints xs ===== -/
theorem i_vc (xs : Nat → Int32) (L : Nat) (hL : L ≤ 2) : wpL_law (fun r => r = 1) L xs :=
  dt_cell (k := 0) hL (by omega) (fun x => dt_cell (k := 1) hL (by omega) (fun y => ⟨11, 365, by omega, by omega, dt_law rfl⟩))
end
