section
/-! the picture: at most one edge counts, from block 0 to block e (e = 0: there is none); live are 0 and e -/
/-- next[0] -/
def ww_N (e : Nat) : Int32 := if e = 0 then 0 else nI (2 ^ e)
/-- the live set -/
def ww_V (e : Nat) : Int32 := if e = 0 then 1 else nI (1 + 2 ^ e)
/-- next, and forward, at a live block j -/
def ww_nx (e j : Nat) : Int32 := if j = 0 then ww_N e else 0
def ww_P (e : Nat) (a3 : Nat → Int32) : Prop := ∀ j, j < 6 → (j = 0 ∨ j = e) → a3 j = ww_nx e j
/-- the dominators of block j; and as they stand ahead of the rounds -/
def ww_D (e j : Nat) : Int32 := if j = 0 then 1 else if j = e then ww_V e else 0
def ww_D0 (e j : Nat) : Int32 := if j = 0 ∨ j = e then ww_V e else 0
/-- how many live blocks -/
def ww_T (e : Nat) : Nat := if e = 0 then 1 else 2
/-- forward[j] while edges a, i are looked at -/
def ww_F (e a i j : Nat) : Int32 := if j = 0 ∧ (0 < a ∨ e < i) then ww_N e else 0
/-- the sort: how many are listed ahead of round r, block i; and the set of the first t listed -/
def ww_t (e r i : Nat) : Nat := if r = 0 ∧ i = 0 then 0 else if r = 0 ∧ i ≤ e then 1 else ww_T e
def ww_x (e t : Nat) : Int32 := if t = 0 then 0 else if t = 1 then 1 else ww_V e
/-- what stands ahead of block b, of those below i -/
def ww_B (e b i : Nat) : Int32 := if 0 < i ∧ b = e ∧ e ≠ 0 then 1 else 0
/-- live blocks below i -/
def ww_c (e i : Nat) : Nat := (if 0 < i then 1 else 0) + (if e < i ∧ e ≠ 0 then 1 else 0)
/-- the order's t-th block -/
def ww_o (e t : Nat) : Nat := if t = 0 then 0 else e
/-- has the edge to e been taken, ahead of place t of the order and block i -/
def ww_q (e t i : Nat) : Nat := if 0 < t ∨ e < i then 1 else 0
/-- the reaches, the weights being cs -/
def ww_G (cs : Nat → Nat) (e q j : Nat) : Int32 := if j = 0 then nI (cs 0) else if j = e ∧ q = 1 then nI (cs 0 + cs e) else (-1000000)
/-- what worst answers -/
def ww_w (cs : Nat → Nat) (e j : Nat) : Int32 := if j = 0 then nI (cs 0) else if j = e then nI (cs 0 + cs e) else (-1)

/-! tables -/
theorem ww_6 {P : Nat → Prop} (h0 : P 0) (h1 : P 1) (h2 : P 2) (h3 : P 3) (h4 : P 4) (h5 : P 5) : ∀ e, e < 6 → P e
  | 0, _ => h0
  | 1, _ => h1
  | 2, _ => h2
  | 3, _ => h3
  | 4, _ => h4
  | 5, _ => h5
  | n + 6, h => absurd h (by omega)
theorem ww_10 : ¬ (1 : Int32) = 0 := by decide
theorem ww_00 : (0 : Int32).toInt16.toInt32 = 0 := by decide +kernel
theorem ww_tV : ∀ e, e < 6 → ∀ j, j < 6 → ((((ww_V e) >>> (nI j &&& 31)) &&& 1) = 0 ↔ ¬ (j = 0 ∨ j = e)) := by decide +kernel
theorem ww_tN : ∀ e, e < 6 → ∀ j, j < 6 → ∀ b, b < 6 → ((((ww_nx e j) >>> (nI b &&& 31)) &&& 1) = 0 ↔ ¬ (j = 0 ∧ b = e ∧ e ≠ 0)) := by
  refine ww_6 ?_ ?_ ?_ ?_ ?_ ?_ <;> decide +kernel
theorem ww_tNV : ∀ e, e < 6 → ∀ j, j < 6 → ∀ b, b < 6 → ((((ww_nx e j &&& ww_V e) >>> (nI b &&& 31)) &&& 1) = 0 ↔ ¬ (j = 0 ∧ b = e ∧ e ≠ 0)) := by
  refine ww_6 ?_ ?_ ?_ ?_ ?_ ?_ <;> decide +kernel
theorem ww_t1 : ∀ e, e < 6 → 1 ||| ww_nx e 0 = ww_V e := by decide +kernel
theorem ww_tVn : ∀ e, e < 6 → ∀ j, j < 6 → ww_V e ||| ww_nx e j = ww_V e := by decide +kernel
theorem ww_tVs : ∀ e, e < 6 → (ww_V e).toInt16.toInt32 = ww_V e := by decide +kernel
theorem ww_tV1 : ∀ e, e < 6 → ww_V e &&& 1 = 1 := by decide +kernel
theorem ww_t1V : ∀ e, e < 6 → e ≠ 0 → ((1 : Int32) ||| ((1 : Int32) <<< (nI e &&& 31))).toInt16.toInt32 = ww_V e := by decide +kernel
theorem ww_t1W : ∀ e, e < 6 → e ≠ 0 → (1 : Int32) ||| ((1 : Int32) <<< (nI e &&& 31)) = ww_V e := by decide +kernel
theorem ww_tFs : ∀ e, e < 6 → ∀ a, a < 6 → ∀ i, i < 6 → ¬ (a = 0 ∧ i = e ∧ e ≠ 0) → ∀ j, j < 6 → ww_F e a i j = ww_F e a (i + 1) j := by
  refine ww_6 ?_ ?_ ?_ ?_ ?_ ?_ <;> (refine ww_6 ?_ ?_ ?_ ?_ ?_ ?_ <;> decide +kernel)
theorem ww_tFa : ∀ e, e < 6 → ∀ a, a < 6 → ∀ j, j < 6 → ww_F e a 6 j = ww_F e (a + 1) 0 j := by decide +kernel
theorem ww_tF0 : ∀ e, e < 6 → ∀ j, j < 6 → (0 : Int32) = ww_F e 0 0 j := by decide +kernel
theorem ww_tF6 : ∀ e, e < 6 → ∀ j, j < 6 → ww_F e 6 0 j = ww_nx e j := by decide +kernel
theorem ww_tFe : ∀ e, e < 6 → e ≠ 0 → (ww_F e 0 e 0 ||| ((1 : Int32) <<< (nI e &&& 31))).toInt16.toInt32 = ww_F e 0 (e + 1) 0 := by decide +kernel
theorem ww_tFo : ∀ e, e < 6 → ∀ j, j < 6 → j ≠ 0 → ww_F e 0 e j = ww_F e 0 (e + 1) j := by decide +kernel
theorem ww_tD1 : ∀ e, e < 6 → e ≠ 0 → (((1 : Int32) >>> (nI e &&& 31)) &&& 1) = 0 := by decide +kernel
theorem ww_tB0 : ∀ e, e < 6 → ∀ b, b < 6 → ∀ i, i < 6 → ¬ (i = 0 ∧ b = e ∧ e ≠ 0) → ww_B e b i = ww_B e b (i + 1) := by
  refine ww_6 ?_ ?_ ?_ ?_ ?_ ?_ <;> decide +kernel
theorem ww_tB1 : ∀ e, e < 6 → e ≠ 0 → ww_B e e 0 ||| ((1 : Int32) <<< (nI 0 &&& 31)) = ww_B e e 1 := by decide +kernel
theorem ww_tx : ∀ e, e < 6 → ∀ r, r < 6 → ∀ i, i < 6 → (i = 0 ∨ i = e) → ((((ww_x e (ww_t e r i)) >>> (nI i &&& 31)) &&& 1) = 0 ↔ ¬ r ≠ 0) := by
  refine ww_6 ?_ ?_ ?_ ?_ ?_ ?_ <;> decide +kernel
theorem ww_tts : ∀ e, e < 6 → ∀ r, r < 6 → ∀ i, i < 6 → ¬ ((i = 0 ∨ i = e) ∧ r = 0) → ww_t e r i = ww_t e r (i + 1) := by decide +kernel
theorem ww_ttn : ∀ e, e < 6 → ∀ i, i < 6 → (i = 0 ∨ i = e) → ww_t e 0 (i + 1) = ww_t e 0 i + 1 := by decide +kernel
theorem ww_tt6 : ∀ e, e < 6 → ∀ r, r < 6 → ww_t e r 6 = ww_t e (r + 1) 0 := by decide +kernel
theorem ww_ttT : ∀ e, e < 6 → ww_t e 6 0 = ww_T e := by decide +kernel
theorem ww_ttl : ∀ e, e < 6 → ∀ r, r < 7 → ∀ i, i < 7 → ww_t e r i ≤ 2 := by decide +kernel
theorem ww_ttx : ∀ e, e < 6 → ∀ i, i < 6 → (i = 0 ∨ i = e) → (ww_B e i 6 &&& (ww_x e (ww_t e 0 i) ^^^ (-1))) = 0 ∧ ww_x e (ww_t e 0 i) ||| ((1 : Int32) <<< (nI i &&& 31)) = ww_x e (ww_t e 0 i + 1) ∧ ww_t e 0 i ≤ 1 ∧ (nI i).toInt8.toInt32 = nI (ww_o e (ww_t e 0 i)) := by decide +kernel
theorem ww_tc : ∀ e, e < 6 → ∀ i, i < 6 → nI (ww_c e i) + (((ww_V e) >>> (nI i &&& 31)) &&& 1) = nI (ww_c e (i + 1)) := by decide +kernel
theorem ww_tc6 : ∀ e, e < 6 → nI (ww_c e 6) = nI (ww_T e) := by decide +kernel
theorem ww_tq : ∀ e, e < 6 → ∀ t, t < 2 → ∀ i, i < 6 → ¬ (t = 0 ∧ i = e) → ww_q e t i = ww_q e t (i + 1) := by decide +kernel
theorem ww_tq6 : ∀ e, e < 6 → ∀ t, t < 2 → ww_q e t 6 = ww_q e (t + 1) 0 := by decide +kernel

/-! general rows -/
theorem ww_br {A B c : Prop} {p0 p1 : Int32} (hc : (((p0 >>> (p1 &&& 31)) &&& 1) = 0) ↔ ¬ c) (t : c → B) (f : ¬ c → A) : wpX_in (fun r => ((r = 0 → A) ∧ (¬ r = 0 → B))) () p0 p1 := by
  unfold wpX_in
  exact ⟨fun h => br_t rfl (f (hc.mp h)), fun h => br_f ww_10 (t (Classical.byContradiction (fun z => h (hc.mpr z))))⟩
/-- a row of an array is written in order -/
theorem ww_fill {f : Nat → Int32} {s : Nat → Int32} {i : Nat} {x : Int32} (h : ∀ j, j < i → s j = f j) (hx : x = f i) : ∀ j, j < i + 1 → upd s i x j = f j := by
  intro j hj
  by_cases e : j = i
  · rw [e, pk_us, hx]
  · rw [pk_un e]
    exact h j (by omega)
/-- a place is written with what the picture has there -/
theorem ww_put {f g : Nat → Int32} {s : Nat → Int32} {i : Nat} {x : Int32} (h : ∀ j, j < 6 → s j = f j) (hx : x = g i) (ho : ∀ j, j < 6 → j ≠ i → f j = g j) : ∀ j, j < 6 → upd s i x j = g j := by
  intro j hj
  by_cases e : j = i
  · rw [e, pk_us, hx]
  · rw [pk_un e, h j hj]
    exact ho j hj e
theorem ww_as {f g s : Nat → Int32} (h : ∀ j, j < 6 → s j = f j) (ho : ∀ j, j < 6 → f j = g j) : ∀ j, j < 6 → s j = g j := fun j hj => (h j hj).trans (ho j hj)
end
section
section
variable {post : St2 → Prop} {kn lv od hc : Int32} {a1 a2 a3 a4 a5 a6 a7 a8 a9 a10 a11 a12 : Nat → Int32} {e : Nat}
/-! findLive -/
theorem ww_fl15 {J : Int32 → Int32 → Prop} {r : Nat} (he : e < 6) (hP : ww_P e a3) {s : Int32} (hs : s = 1 ∨ s = ww_V e) (H : J (nI (r + 1)) (ww_V e)) :
    ∃ n, wX_findLive_15 post J (nI r) kn od hc a1 a2 a3 a4 a5 a6 a7 a8 a9 a10 a11 a12 n 0 s := by
  refine pk_loop (fun n i s => wX_findLive_15 post J (nI r) kn od hc a1 a2 a3 a4 a5 a6 a7 a8 a9 a10 a11 a12 n (nI i) s) (fun i s => (i = 0 ∧ s = 1) ∨ s = ww_V e) 6 0 s (by omega) (hs.imp (fun h => ⟨rfl, h⟩) id) ?_ ?_
  · intro n s h
    have h6 : s = ww_V e := h.elim (fun z => absurd z.1 (by omega)) id
    subst h6
    exact pk_le 6 6 (fun _ => nm_r (nI_1 r) H) (fun z => absurd z (by omega))
  · intro n i s hi h hw
    refine pk_le 6 i (fun z => absurd z (by omega)) (fun _ => ?_)
    rcases h with ⟨h0, h1⟩ | h1
    · subst h0 h1
      refine ww_br (c := True) (by decide +kernel) (fun _ => ⟨pk_in 0 6 (by omega), nm_r ?_ (nm_r (nI_1 0) (hw _ (Or.inr rfl)))⟩) (fun z => absurd trivial z)
      rw [nI_clamp (by omega), hP 0 (by omega) (Or.inl rfl)]
      exact ww_t1 e he
    · subst h1
      refine ww_br (ww_tV e he i hi) (fun hl => ⟨pk_in i 6 hi, nm_r ?_ (nm_r (nI_1 i) (hw _ (Or.inr rfl)))⟩) (fun _ => nm_r (nI_1 i) (hw _ (Or.inr rfl)))
      rw [nI_clamp (by omega), hP i hi hl]
      exact ww_tVn e he i hi
theorem ww_findLive (he : e < 6) (hP : ww_P e a3) (H : post (kn, ww_V e, od, hc, a1, a2, a3, a4, a5, a6, a7, a8, a9, a10, a11, a12)) : wpX_findLive post (kn, lv, od, hc, a1, a2, a3, a4, a5, a6, a7, a8, a9, a10, a11, a12) := by
  refine pk_loop (fun n i s => wX_findLive_7 post kn od hc a1 a2 a3 a4 a5 a6 a7 a8 a9 a10 a11 a12 n (nI i) s) (fun i s => (i = 0 ∧ s = 1) ∨ s = ww_V e) 6 0 1 (by omega) (Or.inl ⟨rfl, rfl⟩) ?_ ?_
  · intro n s h
    have h6 : s = ww_V e := h.elim (fun z => absurd z.1 (by omega)) id
    subst h6
    exact pk_le 6 6 (fun _ => H) (fun z => absurd z (by omega))
  · intro n i s hi h hw
    exact pk_le 6 i (fun z => absurd z (by omega)) (fun _ => ww_fl15 he hP (h.imp (fun z => z.2) id) (hw _ (Or.inr rfl)))
/-! findDominators -/
theorem ww_meet {post : Int32 → Prop} (he : e < 6) (hn : e ≠ 0) (hP : ww_P e a3) (hD : ∀ j, j < 6 → a4 j = ww_D e j) (H : post 1) :
    wpX_meetOfBefore post (kn, ww_V e, od, hc, a1, a2, a3, a4, a5, a6, a7, a8, a9, a10, a11, a12) (nI e) := by
  refine pk_loop (fun n i s => wX_meetOfBefore_7 post (nI e) kn (ww_V e) od hc a1 a2 a3 a4 a5 a6 a7 a8 a9 a10 a11 a12 n s (nI i)) (fun i s => (i = 0 ∧ s = ww_V e) ∨ (0 < i ∧ s = 1)) 6 0 (ww_V e) (by omega) (Or.inl ⟨rfl, rfl⟩) ?_ ?_
  · intro n s h
    have h6 : s = 1 := h.elim (fun z => absurd z.1 (by omega)) (fun z => z.2)
    subst h6
    exact pk_le 6 6 (fun _ => H) (fun z => absurd z (by omega))
  · intro n i s hi h hw
    refine pk_le 6 i (fun z => absurd z (by omega)) (fun _ => ?_)
    refine ww_br (ww_tV e he i hi) (fun hl => ⟨pk_in i 6 hi, ?_⟩) (fun hl => ?_)
    · refine ww_br (c := i = 0 ∧ e = e ∧ e ≠ 0) ?_ (fun hb => ⟨pk_in i 6 hi, ?_⟩) (fun hb => nm_r (nI_1 i) (hw _ ?_))
      · rw [nI_clamp (by omega), hP i hi hl]
        exact ww_tN e he i hi e he
      · refine nm_r ?_ (nm_r (nI_1 i) (hw 1 (Or.inr ⟨by omega, rfl⟩)))
        rw [nI_clamp (by omega), hb.1, hD 0 (by omega)]
        rcases h with z | z
        · rw [z.2]
          exact ww_tV1 e he
        · exact absurd hb.1 (by omega)
      · rcases h with z | z
        · exact absurd ⟨z.1, rfl, hn⟩ hb
        · exact Or.inr ⟨by omega, z.2⟩
    · refine nm_r (nI_1 i) (hw _ ?_)
      rcases h with z | z
      · exact absurd (Or.inl z.1) hl
      · exact Or.inr ⟨by omega, z.2⟩
theorem ww_fd57 {J : Int32 → (Nat → Int32) → (Nat → Int32) → (Nat → Int32) → (Nat → Int32) → (Nat → Int32) → (Nat → Int32) → (Nat → Int32) → (Nat → Int32) → (Nat → Int32) → (Nat → Int32) → (Nat → Int32) → (Nat → Int32) → Prop} {r : Nat} (he : e < 6) (hP : ww_P e a3) (hD : ∀ j, j < 6 → a4 j = ww_D e j)
    (H : ∀ a4 : Nat → Int32, (∀ j, j < 6 → a4 j = ww_D e j) → J (nI (r + 1)) a1 a2 a3 a4 a5 a6 a7 a8 a9 a10 a11 a12) :
    ∃ n, wX_findDominators_57 post J (nI r) kn (ww_V e) od hc n 1 a1 a2 a3 a4 a5 a6 a7 a8 a9 a10 a11 a12 := by
  refine pk_loop (fun n i s => wX_findDominators_57 post J (nI r) kn (ww_V e) od hc n (nI i) a1 a2 a3 s a5 a6 a7 a8 a9 a10 a11 a12) (fun i s => 1 ≤ i ∧ ∀ j, j < 6 → s j = ww_D e j) 6 1 a4 (by omega) ⟨by omega, hD⟩ ?_ ?_
  · intro n s h
    exact pk_le 6 6 (fun _ => nm_r (nI_1 r) (H s h.2)) (fun z => absurd z (by omega))
  · intro n i s hi h hw
    refine pk_le 6 i (fun z => absurd z (by omega)) (fun _ => ?_)
    refine ww_br (ww_tV e he i hi) (fun hl => ?_) (fun hl => nm_r (nI_1 i) (hw s ⟨by omega, h.2⟩))
    have hie : i = e := hl.elim (fun z => absurd z (by omega)) id
    subst hie
    refine ww_meet he (by omega) hP h.2 ⟨pk_in i 6 hi, nm_e (nm_r (nI_1 i) (hw _ ⟨by omega, ?_⟩))⟩
    rw [nI_clamp (by omega)]
    refine ww_put h.2 ?_ (fun _ _ _ => rfl)
    rw [ww_t1V i he (by omega)]
    unfold ww_D
    rw [if_neg (by omega), if_pos rfl]
theorem ww_fd49 (he : e < 6) (hP : ww_P e a3) (hD : ∀ j, j < 6 → a4 j = ww_D e j)
    (H : ∀ a4 : Nat → Int32, (∀ j, j < 6 → a4 j = ww_D e j) → post (kn, ww_V e, od, hc, a1, a2, a3, a4, a5, a6, a7, a8, a9, a10, a11, a12)) :
    ∃ n, wX_findDominators_49 post kn (ww_V e) od hc n 0 a1 a2 a3 a4 a5 a6 a7 a8 a9 a10 a11 a12 := by
  refine pk_loop (fun n i s => wX_findDominators_49 post kn (ww_V e) od hc n (nI i) a1 a2 a3 s a5 a6 a7 a8 a9 a10 a11 a12) (fun i s => ∀ j, j < 6 → s j = ww_D e j) 36 0 a4 (by omega) hD ?_ ?_
  · intro n s h
    exact pk_le 36 36 (fun _ => H s h) (fun z => absurd z (by omega))
  · intro n i s hi h hw
    exact pk_le 36 i (fun z => absurd z (by omega)) (fun _ => ww_fd57 he hP h hw)
theorem ww_findDominators (he : e < 6) (hP : ww_P e a3)
    (H : ∀ a4 : Nat → Int32, (∀ j, j < 6 → a4 j = ww_D e j) → post (kn, ww_V e, od, hc, a1, a2, a3, a4, a5, a6, a7, a8, a9, a10, a11, a12)) : wpX_findDominators post (kn, ww_V e, od, hc, a1, a2, a3, a4, a5, a6, a7, a8, a9, a10, a11, a12) := by
  refine pk_loop (fun n i s => wX_findDominators_2 post kn (ww_V e) od hc n (nI i) a1 a2 a3 s a5 a6 a7 a8 a9 a10 a11 a12) (fun i s => ∀ j, j < i → s j = ww_D0 e j) 6 0 a4 (by omega) lt_0 ?_ ?_
  · intro n s h
    refine pk_le 6 6 (fun _ => nm_e (ww_fd49 he hP ?_ H)) (fun z => absurd z (by omega))
    refine ww_put h ?_ ?_
    · rfl
    · intro j _ hj
      unfold ww_D0 ww_D
      rw [if_neg hj]
      by_cases g : j = e
      · rw [if_pos (Or.inr g), if_pos g]
      · rw [if_neg (fun z => z.elim hj g), if_neg g]
  · intro n i s hi h hw
    refine pk_le 6 i (fun z => absurd z (by omega)) (fun _ => ?_)
    refine ww_br (ww_tV e he i hi) (fun hl => ⟨pk_in i 6 hi, nm_e (nm_r (nI_1 i) (hw _ ?_))⟩) (fun hl => ⟨pk_in i 6 hi, nm_e (nm_r (nI_1 i) (hw _ ?_))⟩)
    · rw [nI_clamp (by omega), ww_tVs e he]
      refine ww_fill h ?_
      unfold ww_D0
      rw [if_pos hl]
    · rw [nI_clamp (by omega)]
      refine ww_fill h ?_
      unfold ww_D0
      rw [if_neg hl]
      rfl
/-! splitEdges -/
theorem ww_se38 {J : Int32 → (Nat → Int32) → (Nat → Int32) → (Nat → Int32) → (Nat → Int32) → (Nat → Int32) → (Nat → Int32) → (Nat → Int32) → (Nat → Int32) → (Nat → Int32) → (Nat → Int32) → (Nat → Int32) → (Nat → Int32) → Prop} {a : Nat} (he : e < 6) (ha : a < 6) (hP : ww_P e a3) (hD : ∀ j, j < 6 → a4 j = ww_D e j) (hF : ∀ j, j < 6 → a5 j = ww_F e a 0 j)
    (H : ∀ a5 : Nat → Int32, (∀ j, j < 6 → a5 j = ww_F e (a + 1) 0 j) → J (nI (a + 1)) a1 a2 a3 a4 a5 a6 a7 a8 a9 a10 a11 a12) :
    ∃ n, wX_splitEdges_38 post J (nI a) kn (ww_V e) od hc n 0 a1 a2 a3 a4 a5 a6 a7 a8 a9 a10 a11 a12 := by
  refine pk_loop (fun n i s => wX_splitEdges_38 post J (nI a) kn (ww_V e) od hc n (nI i) a1 a2 a3 a4 s a6 a7 a8 a9 a10 a11 a12) (fun i s => ∀ j, j < 6 → s j = ww_F e a i j) 6 0 a5 (by omega) hF ?_ ?_
  · intro n s h
    exact pk_le 6 6 (fun _ => nm_r (nI_1 a) (H s (ww_as h (ww_tFa e he a ha)))) (fun z => absurd z (by omega))
  · intro n i s hi h hw
    refine pk_le 6 i (fun z => absurd z (by omega)) (fun _ => ?_)
    refine ww_br (ww_tV e he a ha) (fun hl => ⟨pk_in a 6 ha, ?_⟩) (fun hl => nm_r (nI_1 i) (hw s (ww_as h (ww_tFs e he a ha i hi (fun z => hl (Or.inl z.1))))))
    refine ww_br (c := a = 0 ∧ i = e ∧ e ≠ 0) ?_ (fun hb => ⟨pk_in a 6 ha, ?_⟩) (fun hb => nm_r (nI_1 i) (hw s (ww_as h (ww_tFs e he a ha i hi hb))))
    · rw [nI_clamp (by omega), hP a ha hl]
      exact ww_tN e he a ha i hi
    · obtain ⟨rfl, rfl, hn⟩ := hb
      refine ww_br (c := False) ?_ (fun z => z.elim) (fun _ => ⟨pk_in 0 6 (by omega), pk_in 0 6 (by omega), nm_e (nm_r (nI_1 i) (hw _ ?_))⟩)
      · rw [nI_clamp (by omega), hD 0 (by omega)]
        exact ⟨fun _ z => z, fun _ => ww_tD1 i he hn⟩
      · rw [nI_clamp (by omega), h 0 (by omega)]
        exact ww_put h (ww_tFe i he hn) (ww_tFo i he)
theorem ww_se30 (he : e < 6) (hP : ww_P e a3) (hD : ∀ j, j < 6 → a4 j = ww_D e j) (hF : ∀ j, j < 6 → a5 j = 0)
    (H : ∀ a5 : Nat → Int32, (∀ j, j < 6 → a5 j = ww_nx e j) → post (kn, ww_V e, od, hc, a1, a2, a3, a4, a5, a6, a7, a8, a9, a10, a11, a12)) :
    ∃ n, wX_splitEdges_30 post kn (ww_V e) od hc n 0 a1 a2 a3 a4 a5 a6 a7 a8 a9 a10 a11 a12 := by
  refine pk_loop (fun n i s => wX_splitEdges_30 post kn (ww_V e) od hc n (nI i) a1 a2 a3 a4 s a6 a7 a8 a9 a10 a11 a12) (fun i s => ∀ j, j < 6 → s j = ww_F e i 0 j) 6 0 a5 (by omega) (ww_as hF (ww_tF0 e he)) ?_ ?_
  · intro n s h
    exact pk_le 6 6 (fun _ => H s (ww_as h (ww_tF6 e he))) (fun z => absurd z (by omega))
  · intro n i s hi h hw
    exact pk_le 6 i (fun z => absurd z (by omega)) (fun _ => ww_se38 he hi hP hD h hw)
theorem ww_splitEdges (he : e < 6) (hP : ww_P e a3) (hD : ∀ j, j < 6 → a4 j = ww_D e j)
    (H : ∀ a5 a6 : Nat → Int32, (∀ j, j < 6 → a5 j = ww_nx e j) → (∀ j, j < 6 → a6 j = 0) → post (kn, ww_V e, od, hc, a1, a2, a3, a4, a5, a6, a7, a8, a9, a10, a11, a12)) : wpX_splitEdges post (kn, ww_V e, od, hc, a1, a2, a3, a4, a5, a6, a7, a8, a9, a10, a11, a12) := by
  refine pk_loop (σ := (Nat → Int32) × (Nat → Int32)) (fun n i s => wX_splitEdges_2 post kn (ww_V e) od hc n (nI i) a1 a2 a3 a4 s.1 s.2 a7 a8 a9 a10 a11 a12) (fun i s => (∀ j, j < i → s.1 j = (fun _ => 0) j) ∧ (∀ j, j < i → s.2 j = (fun _ => 0) j)) 6 0 (a5, a6) (by omega) ⟨lt_0, lt_0⟩ ?_ ?_
  · intro n s h
    exact pk_le 6 6 (fun _ => ww_se30 he hP hD h.1 (fun a5 h5 => H a5 s.2 h5 h.2)) (fun z => absurd z (by omega))
  · intro n i s hi h hw
    refine pk_le 6 i (fun z => absurd z (by omega)) (fun _ => ⟨pk_in i 6 hi, nm_r (by rw [nI_clamp (by omega)]) ⟨pk_in i 6 hi, nm_r (by rw [nI_clamp (by omega)]) (nm_r (nI_1 i) (hw (upd s.1 i 0, upd s.2 i 0) ⟨ww_fill h.1 rfl, ww_fill h.2 rfl⟩))⟩⟩)
end
end
section
section
variable {post : St2 → Prop} {kn lv od hc : Int32} {a1 a2 a3 a4 a5 a6 a7 a8 a9 a10 a11 a12 : Nat → Int32} {e : Nat}
/-! sort -/
theorem ww_before {post : Int32 → Prop} {b : Nat} (he : e < 6) (hb : b < 6) (hF : ∀ j, j < 6 → a5 j = ww_nx e j) (H : post (ww_B e b 6)) :
    wpX_before post (kn, lv, od, hc, a1, a2, a3, a4, a5, a6, a7, a8, a9, a10, a11, a12) (nI b) := by
  refine pk_loop (fun n i s => wX_before_4 post (nI b) kn lv od hc a1 a2 a3 a4 a5 a6 a7 a8 a9 a10 a11 a12 n s (nI i)) (fun i s => s = ww_B e b i) 6 0 0 (by omega) rfl ?_ ?_
  · intro n s h
    have h : s = ww_B e b 6 := h
    subst h
    exact pk_le 6 6 (fun _ => H) (fun z => absurd z (by omega))
  · intro n i s hi h hw
    have h : s = ww_B e b i := h
    subst h
    refine pk_le 6 i (fun z => absurd z (by omega)) (fun _ => ⟨pk_in i 6 hi, ?_⟩)
    refine ww_br (c := i = 0 ∧ b = e ∧ e ≠ 0) ?_ (fun hc => ?_) (fun hc => nm_r (nI_1 i) (hw _ (ww_tB0 e he b hb i hi hc)))
    · rw [nI_clamp (by omega), hF i hi]
      exact ww_tN e he i hi b hb
    · obtain ⟨rfl, rfl, hn⟩ := hc
      exact nm_r (ww_tB1 b he hn) (nm_r (nI_1 0) (hw _ rfl))
/-- the first t of the order are listed -/
def ww_R (e t : Nat) (x1 od : Int32) (a8 : Nat → Int32) : Prop := x1 = ww_x e t ∧ od = nI t ∧ ∀ j, j < t → a8 j = nI (ww_o e j)
theorem ww_so17 {J : Int32 → Int32 → Int32 → (Nat → Int32) → (Nat → Int32) → (Nat → Int32) → (Nat → Int32) → (Nat → Int32) → (Nat → Int32) → (Nat → Int32) → (Nat → Int32) → (Nat → Int32) → (Nat → Int32) → (Nat → Int32) → (Nat → Int32) → Prop} {r : Nat} {x1 : Int32} (he : e < 6) (hr : r < 6) (hF : ∀ j, j < 6 → a5 j = ww_nx e j) (hR : ww_R e (ww_t e r 0) x1 od a8)
    (H : ∀ (x1 od : Int32) (a8 : Nat → Int32), ww_R e (ww_t e (r + 1) 0) x1 od a8 → J x1 (nI (r + 1)) od a1 a2 a3 a4 a5 a6 a7 a8 a9 a10 a11 a12) :
    ∃ n, wX_sort_17 post J (nI r) kn (ww_V e) hc n x1 0 od a1 a2 a3 a4 a5 a6 a7 a8 a9 a10 a11 a12 := by
  refine pk_loop (σ := Int32 × Int32 × (Nat → Int32)) (fun n i s => wX_sort_17 post J (nI r) kn (ww_V e) hc n s.1 (nI i) s.2.1 a1 a2 a3 a4 a5 a6 a7 s.2.2 a9 a10 a11 a12) (fun i s => ww_R e (ww_t e r i) s.1 s.2.1 s.2.2) 6 0 (x1, od, a8) (by omega) hR ?_ ?_
  · intro n s h
    have h : ww_R e (ww_t e r 6) s.1 s.2.1 s.2.2 := h
    rw [ww_tt6 e he r hr] at h
    exact pk_le 6 6 (fun _ => nm_r (nI_1 r) (H _ _ _ h)) (fun z => absurd z (by omega))
  · intro n i s hi h hw
    obtain ⟨x, o, a⟩ := s
    have h : ww_R e (ww_t e r i) x o a := h
    obtain ⟨h1, h2, h3⟩ := h
    subst h1 h2
    refine pk_le 6 i (fun z => absurd z (by omega)) (fun _ => ?_)
    refine ww_br (ww_tV e he i hi) (fun hl => ?_) (fun hl => nm_r (nI_1 i) (hw (_, _, a) ?_))
    · refine ww_br (ww_tx e he r hr i hi hl) (fun hb => nm_r (nI_1 i) (hw (_, _, a) ?_)) (fun hb => ?_)
      · show ww_R e (ww_t e r (i + 1)) (ww_x e (ww_t e r i)) (nI (ww_t e r i)) a
        rw [← ww_tts e he r hr i hi (fun z => hb z.2)]
        exact ⟨rfl, rfl, h3⟩
      · have hr0 : r = 0 := Classical.byContradiction hb
        subst hr0
        obtain ⟨t1, t2, t3, t4⟩ := ww_ttx e he i hi hl
        refine ww_before he hi hF (br_t t1 ⟨pk_in (ww_t e 0 i) 6 (by omega), nm_e (nm_r (nI_1 _) (nm_r t2 (nm_r (nI_1 i) (hw (_, _, _) ?_))))⟩)
        show ww_R e (ww_t e 0 (i + 1)) (ww_x e (ww_t e 0 i + 1)) (nI (ww_t e 0 i + 1)) (upd a (nI (ww_t e 0 i)).toNatClampNeg (nI i).toInt8.toInt32)
        rw [ww_ttn e he i hi hl, nI_clamp (by omega)]
        refine ⟨rfl, rfl, ?_⟩
        exact ww_fill (f := fun j => nI (ww_o e j)) h3 t4
    · show ww_R e (ww_t e r (i + 1)) (ww_x e (ww_t e r i)) (nI (ww_t e r i)) a
      rw [← ww_tts e he r hr i hi (fun z => hl z.1)]
      exact ⟨rfl, rfl, h3⟩
theorem ww_sort (he : e < 6) (hF : ∀ j, j < 6 → a5 j = ww_nx e j)
    (H : ∀ a8 : Nat → Int32, (∀ j, j < ww_T e → a8 j = nI (ww_o e j)) → post (kn, ww_V e, nI (ww_T e), hc, a1, a2, a3, a4, a5, a6, a7, a8, a9, a10, a11, a12)) : wpX_sort post (kn, ww_V e, od, hc, a1, a2, a3, a4, a5, a6, a7, a8, a9, a10, a11, a12) := by
  refine pk_loop (σ := Int32 × Int32 × (Nat → Int32)) (fun n i s => wX_sort_9 post kn (ww_V e) hc n s.1 (nI i) s.2.1 a1 a2 a3 a4 a5 a6 a7 s.2.2 a9 a10 a11 a12) (fun i s => ww_R e (ww_t e i 0) s.1 s.2.1 s.2.2) 6 0 (0, 0, a8) (by omega) ⟨rfl, rfl, fun j hj => absurd hj (Nat.not_lt_zero j)⟩ ?_ ?_
  · intro n s h
    obtain ⟨x, o, a⟩ := s
    have h : ww_R e (ww_t e 6 0) x o a := h
    rw [ww_ttT e he] at h
    obtain ⟨h1, h2, h3⟩ := h
    subst h1 h2
    exact pk_le 6 6 (fun _ => H a h3) (fun z => absurd z (by omega))
  · intro n i s hi h hw
    exact pk_le 6 i (fun z => absurd z (by omega)) (fun _ => ww_so17 he hi hF h (fun x o a hh => hw (x, o, a) hh))
/-! listHeads: no loop has a head -/
theorem ww_lh15 {J : Int32 → Int32 → (Nat → Int32) → (Nat → Int32) → (Nat → Int32) → (Nat → Int32) → (Nat → Int32) → (Nat → Int32) → (Nat → Int32) → (Nat → Int32) → (Nat → Int32) → (Nat → Int32) → (Nat → Int32) → (Nat → Int32) → Prop} {r : Nat} (h7 : ∀ j, j < 6 → a7 j = 0)
    (H : J (nI (r + 1)) hc a1 a2 a3 a4 a5 a6 a7 a8 a9 a10 a11 a12) : ∃ n, wX_listHeads_15 post J (nI r) kn lv od n 0 hc a1 a2 a3 a4 a5 a6 a7 a8 a9 a10 a11 a12 := by
  refine pk_loop (σ := Unit) (fun n i _ => wX_listHeads_15 post J (nI r) kn lv od n (nI i) hc a1 a2 a3 a4 a5 a6 a7 a8 a9 a10 a11 a12) (fun _ _ => True) 6 0 () (by omega) trivial ?_ ?_
  · intro n _ _
    exact pk_le 6 6 (fun _ => nm_r (nI_1 r) H) (fun z => absurd z (by omega))
  · intro n i _ hi _ hw
    exact pk_le 6 i (fun z => absurd z (by omega)) (fun _ => ⟨pk_in i 6 hi, br_t (by rw [nI_clamp (by omega)]; exact h7 i hi) (nm_r (nI_1 i) (hw () trivial))⟩)
theorem ww_listHeads (h7 : ∀ j, j < 6 → a7 j = 0) (H : post (kn, lv, od, 0, a1, a2, a3, a4, a5, a6, a7, a8, a9, a10, a11, a12)) : wpX_listHeads post (kn, lv, od, hc, a1, a2, a3, a4, a5, a6, a7, a8, a9, a10, a11, a12) := by
  refine pk_loop (σ := Unit) (fun n i _ => wX_listHeads_7 post kn lv od n (nI i) 0 a1 a2 a3 a4 a5 a6 a7 a8 a9 a10 a11 a12) (fun _ _ => True) 7 1 () (by omega) trivial ?_ ?_
  · intro n _ _
    exact pk_lt 6 7 (fun _ => H) (fun z => absurd z (by omega))
  · intro n i _ hi _ hw
    exact pk_lt 6 i (fun z => absurd z (by omega)) (fun _ => ww_lh15 h7 (hw () trivial))
/-! learn -/
theorem ww_le27 (he : e < 6) (hF : ∀ j, j < 6 → a5 j = ww_nx e j) (h6 : ∀ j, j < 6 → a6 j = 0)
    (H : ∀ a7 a8 : Nat → Int32, (∀ j, j < ww_T e → a8 j = nI (ww_o e j)) → post (kn, ww_V e, nI (ww_T e), 0, a1, a2, a3, a4, a5, a6, a7, a8, a9, a10, a11, a12)) :
    ∃ n, wX_learn_27 post kn (ww_V e) od hc n 0 a1 a2 a3 a4 a5 a6 a7 a8 a9 a10 a11 a12 := by
  refine pk_loop (fun n i s => wX_learn_27 post kn (ww_V e) od hc n (nI i) a1 a2 a3 a4 a5 a6 s a8 a9 a10 a11 a12) (fun i s => ∀ j, j < i → s j = (fun _ => 0) j) 6 0 a7 (by omega) lt_0 ?_ ?_
  · intro n s h
    exact pk_le 6 6 (fun _ => ww_sort he hF (fun a8 h8 => ww_listHeads h (H s a8 h8))) (fun z => absurd z (by omega))
  · intro n i s hi h hw
    refine pk_le 6 i (fun z => absurd z (by omega)) (fun _ => ?_)
    unfold wpX_loopOf
    refine ⟨pk_in i 6 hi, br_t (by rw [nI_clamp (by omega)]; exact h6 i hi) ⟨pk_in i 6 hi, nm_r (by rw [nI_clamp (by omega), ww_00]) (nm_r (nI_1 i) (hw (upd s i 0) (ww_fill h rfl)))⟩⟩
theorem ww_learn (he : e < 6) (hP : ww_P e a3)
    (H : ∀ a4 a5 a6 a7 a8 : Nat → Int32, (∀ j, j < 6 → a4 j = ww_D e j) → (∀ j, j < 6 → a5 j = ww_nx e j) → (∀ j, j < ww_T e → a8 j = nI (ww_o e j)) → post (1, ww_V e, nI (ww_T e), 0, a1, a2, a3, a4, a5, a6, a7, a8, a9, a10, a11, a12)) :
    wpX_learn post (0, lv, od, hc, a1, a2, a3, a4, a5, a6, a7, a8, a9, a10, a11, a12) := by
  unfold wpX_learn
  dsimp only
  refine br_t rfl ?_
  refine ww_findLive he hP ?_
  refine ww_findDominators he hP (fun b4 h4 => ?_)
  refine ww_splitEdges he hP h4 (fun b5 b6 h5 h6 => ?_)
  exact ww_le27 he h5 h6 (fun b7 b8 h8 => H b4 b5 b6 b7 b8 h4 h5 h8)
theorem ww_learned (H : post (1, lv, od, hc, a1, a2, a3, a4, a5, a6, a7, a8, a9, a10, a11, a12)) : wpX_learn post (1, lv, od, hc, a1, a2, a3, a4, a5, a6, a7, a8, a9, a10, a11, a12) := by
  unfold wpX_learn
  dsimp only
  exact br_f ww_10 H
end
end
section
section
variable {post : St2 → Prop} {kn lv od hc : Int32} {a1 a2 a3 a4 a5 a6 a7 a8 a9 a10 a11 a12 : Nat → Int32} {e : Nat}
theorem ww_sizeOf {post : Int32 → Prop} (he : e < 6) (H : post (nI (ww_T e))) : wpX_sizeOf post () (ww_V e) := by
  refine pk_loop (fun n i s => wX_sizeOf_4 post (ww_V e) n s (nI i)) (fun i s => s = nI (ww_c e i)) 6 0 0 (by omega) rfl ?_ ?_
  · intro n s h
    have h : s = nI (ww_c e 6) := h
    rw [ww_tc6 e he] at h
    subst h
    exact pk_le 6 6 (fun _ => H) (fun z => absurd z (by omega))
  · intro n i s hi h hw
    have h : s = nI (ww_c e i) := h
    subst h
    exact pk_le 6 i (fun z => absurd z (by omega)) (fun _ => nm_r (ww_tc e he i hi) (nm_r (nI_1 i) (hw _ rfl)))
theorem ww_isRegular {post : Int32 → St2 → Prop} (he : e < 6) (H : post 1 (1, ww_V e, nI (ww_T e), hc, a1, a2, a3, a4, a5, a6, a7, a8, a9, a10, a11, a12)) : wpX_isRegular post (1, ww_V e, nI (ww_T e), hc, a1, a2, a3, a4, a5, a6, a7, a8, a9, a10, a11, a12) := by
  unfold wpX_isRegular
  dsimp only
  refine ww_learned ?_
  exact ww_sizeOf he (br_t rfl H)
theorem ww_useCosts (H : ∀ a10 : Nat → Int32, (∀ j, j < 6 → a10 j = a1 j) → post (kn, lv, od, hc, a1, a2, a3, a4, a5, a6, a7, a8, a9, a10, a11, a12)) : wpX_useCosts post (kn, lv, od, hc, a1, a2, a3, a4, a5, a6, a7, a8, a9, a10, a11, a12) := by
  refine pk_loop (fun n i s => wX_useCosts_2 post kn lv od hc n (nI i) a1 a2 a3 a4 a5 a6 a7 a8 a9 s a11 a12) (fun i s => ∀ j, j < i → s j = a1 j) 6 0 a10 (by omega) lt_0 ?_ ?_
  · intro n s h
    exact pk_le 6 6 (fun _ => H s h) (fun z => absurd z (by omega))
  · intro n i s hi h hw
    exact pk_le 6 i (fun z => absurd z (by omega)) (fun _ => ⟨pk_in i 6 hi, pk_in i 6 hi, nm_r (by rw [nI_clamp (by omega)]) (nm_r (nI_1 i) (hw (upd s i (a1 i)) (ww_fill h rfl)))⟩)
theorem ww_begin (H : ∀ a12 : Nat → Int32, (∀ j, j < 6 → a12 j = (-1000000)) → post (kn, lv, od, hc, a1, a2, a3, a4, a5, a6, a7, a8, a9, a10, a11, a12)) : wpX_begin post (kn, lv, od, hc, a1, a2, a3, a4, a5, a6, a7, a8, a9, a10, a11, a12) := by
  refine pk_loop (fun n i s => wX_begin_2 post kn lv od hc n (nI i) a1 a2 a3 a4 a5 a6 a7 a8 a9 a10 a11 s) (fun i s => ∀ j, j < i → s j = (fun _ => (-1000000)) j) 6 0 a12 (by omega) lt_0 ?_ ?_
  · intro n s h
    exact pk_le 6 6 (fun _ => H s h) (fun z => absurd z (by omega))
  · intro n i s hi h hw
    exact pk_le 6 i (fun z => absurd z (by omega)) (fun _ => ⟨pk_in i 6 hi, nm_r (by rw [nI_clamp (by omega)]) (nm_r (nI_1 i) (hw (upd s i (-1000000)) (ww_fill h rfl)))⟩)
theorem ww_largest {post : Int32 → Prop} {p q r : Int32} (H : post (-1)) : wpX_largestLoop post (kn, lv, od, 0, a1, a2, a3, a4, a5, a6, a7, a8, a9, a10, a11, a12) p q r := by
  unfold wpX_largestLoop
  dsimp only
  exact ⟨1, br_t (by decide) H⟩
theorem ww_le0 {c : Nat} (h : c ≤ 100) : ¬ nI c ≤ (-1000000) := by
  rw [Int32.le_iff_toInt_le, nI_toInt (by omega)]
  have : ((-1000000 : Int32)).toInt = -1000000 := by decide
  rw [this]
  omega
/-- coming to a block outside every loop for the first time -/
theorem ww_comeTo {b : Nat} {so : Int32} {c : Nat} (hb : b < 6) (h12 : a12 b = (-1000000)) (hk : c ≤ 100) (hs : so + a10 b = nI c) (H : post (kn, lv, od, hc, a1, a2, a3, a4, a5, a6, a7, a8, a9, a10, a11, upd a12 b (nI c))) : wpX_comeTo post (kn, lv, od, hc, a1, a2, a3, a4, a5, a6, a7, a8, a9, a10, a11, a12) (nI b) (-1) so := by
  unfold wpX_comeTo
  dsimp only
  refine br_f (by decide) ⟨pk_in b 6 hb, ?_⟩
  unfold wpX_lift
  dsimp only
  rw [nI_clamp (by omega), hs, h12]
  exact ⟨pk_in b 6 hb, br_f (ww_le0 hk) ⟨pk_in b 6 hb, nm_e H⟩⟩
/-! pass -/
theorem ww_gs {cs : Nat → Nat} {t i : Nat} (he : e < 6) (ht : t < ww_T e) (hi : i < 6) (hn : ¬ (ww_o e t = 0 ∧ i = e ∧ e ≠ 0)) : ∀ j, j < 6 → ww_G cs e (ww_q e t i) j = ww_G cs e (ww_q e t (i + 1)) j := by
  intro j _
  unfold ww_G
  by_cases hj : j = 0
  · rw [if_pos hj, if_pos hj]
  · rw [if_neg hj, if_neg hj]
    by_cases h0 : e = 0
    · rw [if_neg (fun z => hj (z.1.trans h0)), if_neg (fun z => hj (z.1.trans h0))]
    · have h2 : t < 2 := by
        unfold ww_T at ht
        rw [if_neg h0] at ht
        exact ht
      rw [ww_tq e he t h2 i hi (fun z => hn ⟨by unfold ww_o; rw [if_pos z.1], z.2, h0⟩)]
theorem ww_G0 {cs : Nat → Nat} {q : Nat} : ww_G cs e q 0 = nI (cs 0) := by
  unfold ww_G
  rw [if_pos rfl]
theorem ww_Ge {cs : Nat → Nat} (hn : e ≠ 0) : ww_G cs e 1 e = nI (cs 0 + cs e) := by
  unfold ww_G
  rw [if_neg hn, if_pos ⟨rfl, rfl⟩]
theorem ww_Gf {cs : Nat → Nat} (hn : e ≠ 0) : ww_G cs e 0 e = (-1000000) := by
  unfold ww_G
  rw [if_neg hn, if_neg (fun z => absurd z.2 (by omega))]
theorem ww_q1 {t i : Nat} (h : 0 < t ∨ e < i) : ww_q e t i = 1 := by
  unfold ww_q
  rw [if_pos h]
theorem ww_q0 {i : Nat} (h : i ≤ e) : ww_q e 0 i = 0 := by
  unfold ww_q
  rw [if_neg (by omega)]
theorem ww_pa52 {J : Int32 → Int32 → Int32 → Int32 → Int32 → (Nat → Int32) → (Nat → Int32) → (Nat → Int32) → (Nat → Int32) → (Nat → Int32) → (Nat → Int32) → (Nat → Int32) → (Nat → Int32) → (Nat → Int32) → (Nat → Int32) → (Nat → Int32) → (Nat → Int32) → Prop} {t : Nat} {cs : Nat → Nat} (he : e < 6) (ht : t < ww_T e) (ho : ww_o e t < 6) (hF : ∀ j, j < 6 → a5 j = ww_nx e j) (hk : ∀ j, j < 6 → a10 j = nI (cs j) ∧ cs j ≤ 50) (hG : ∀ j, j < 6 → a12 j = ww_G cs e (ww_q e t 0) j)
    (H : ∀ a12 : Nat → Int32, (∀ j, j < 6 → a12 j = ww_G cs e (ww_q e (t + 1) 0) j) → J (nI (t + 1)) kn (ww_V e) od 0 a1 a2 a3 a4 a5 a6 a7 a8 a9 a10 a11 a12) :
    ∃ n, wX_pass_52 post J (ww_V e) (-1) (nI t) (nI (ww_o e t)) (-1) n 0 kn (ww_V e) od 0 a1 a2 a3 a4 a5 a6 a7 a8 a9 a10 a11 a12 := by
  refine pk_loop (fun n i s => wX_pass_52 post J (ww_V e) (-1) (nI t) (nI (ww_o e t)) (-1) n (nI i) kn (ww_V e) od 0 a1 a2 a3 a4 a5 a6 a7 a8 a9 a10 a11 s) (fun i s => ∀ j, j < 6 → s j = ww_G cs e (ww_q e t i) j) 6 0 a12 (by omega) hG ?_ ?_
  · intro n s h
    have hq : ww_q e t 6 = ww_q e (t + 1) 0 := by rw [ww_q1 (by omega), ww_q1 (by omega)]
    have h : ∀ j, j < 6 → s j = ww_G cs e (ww_q e t 6) j := h
    rw [hq] at h
    exact pk_le 6 6 (fun _ => nm_r (nI_1 t) (H s h)) (fun z => absurd z (by omega))
  · intro n i s hi h hw
    refine pk_le 6 i (fun z => absurd z (by omega)) (fun _ => ⟨pk_in _ 6 ho, ?_⟩)
    refine ww_br (c := ww_o e t = 0 ∧ i = e ∧ e ≠ 0) ?_ (fun hb => ww_largest ?_) (fun hb => nm_r (nI_1 i) (hw s (ww_as h (ww_gs he ht hi hb))))
    · rw [nI_clamp (by omega), hF _ ho]
      exact ww_tNV e he _ ho i hi
    · obtain ⟨h0, rfl, hn⟩ := hb
      have t0 : t = 0 := Classical.byContradiction (fun z => by
        unfold ww_o at h0
        rw [if_neg z] at h0
        exact hn h0)
      subst t0
      unfold wpX_step
      dsimp only
      refine br_t (by decide) ?_
      unfold wX_step_10
      refine ⟨pk_in 0 6 (by omega), ?_⟩
      have h : ∀ j, j < 6 → s j = ww_G cs i (ww_q i 0 i) j := h
      rw [ww_q0 (Nat.le_refl i)] at h
      refine ww_comeTo (c := cs 0 + cs i) hi ((h i hi).trans (ww_Gf hn)) (by have := (hk 0 (by omega)).2; have := (hk i hi).2; omega) ?_ ?_
      · rw [h0, nI_clamp (by omega), h 0 (by omega), ww_G0, (hk i hi).1, nI_add]
      · dsimp only
        refine nm_r (nI_1 i) ?_
        refine hw (upd s i (nI (cs 0 + cs i))) ?_
        show ∀ j, j < 6 → upd s i (nI (cs 0 + cs i)) j = ww_G cs i (ww_q i 0 (i + 1)) j
        rw [ww_q1 (by omega)]
        refine ww_put h (ww_Ge hn).symm ?_
        intro j _ hj
        unfold ww_G
        by_cases z : j = 0
        · rw [if_pos z, if_pos z]
        · rw [if_neg z, if_neg z, if_neg (fun y => hj y.1), if_neg (fun y => hj y.1)]
theorem ww_Go {cs : Nat → Nat} {t : Nat} (he : e < 6) (ht : t < ww_T e) (hk : ∀ j, j < 6 → cs j ≤ 50) : ∃ c, c ≤ 100 ∧ ww_G cs e (ww_q e t 0) (ww_o e t) = nI c := by
  have k0 := hk 0 (by omega)
  have ke := hk e he
  by_cases h0 : t = 0
  · refine ⟨cs 0, by omega, ?_⟩
    have : ww_o e t = 0 := by
      unfold ww_o
      rw [if_pos h0]
    rw [this, ww_G0]
  · have hn : e ≠ 0 := fun z => by
      unfold ww_T at ht
      rw [if_pos z] at ht
      omega
    refine ⟨cs 0 + cs e, by omega, ?_⟩
    have : ww_o e t = e := by
      unfold ww_o
      rw [if_neg h0]
    rw [this, ww_q1 (by omega), ww_Ge hn]
theorem ww_oin {t : Nat} (he : e < 6) : ww_o e t < 6 := by
  unfold ww_o
  split <;> omega
theorem ww_ol {t : Nat} : ww_o e t = 0 ∨ ww_o e t = e := by
  unfold ww_o
  split
  · exact Or.inl rfl
  · exact Or.inr rfl
theorem ww_T2 : ww_T e ≤ 2 := by
  unfold ww_T
  split <;> omega
theorem ww_T1 : 1 ≤ ww_T e := by
  unfold ww_T
  split <;> omega
theorem ww_pass {cs : Nat → Nat} (he : e < 6) (hF : ∀ j, j < 6 → a5 j = ww_nx e j) (h8 : ∀ j, j < ww_T e → a8 j = nI (ww_o e j)) (hk : ∀ j, j < 6 → a10 j = nI (cs j) ∧ cs j ≤ 50) (hG : ∀ j, j < 6 → a12 j = ww_G cs e 0 j)
    (H : ∀ a12 : Nat → Int32, (∀ j, j < 6 → a12 j = ww_G cs e 1 j) → post (kn, ww_V e, nI (ww_T e), 0, a1, a2, a3, a4, a5, a6, a7, a8, a9, a10, a11, a12)) :
    wpX_pass post (kn, ww_V e, nI (ww_T e), 0, a1, a2, a3, a4, a5, a6, a7, a8, a9, a10, a11, a12) (ww_V e) (-1) := by
  have T2 : ww_T e ≤ 2 := ww_T2
  have T1 : 1 ≤ ww_T e := ww_T1
  have hG : ∀ j, j < 6 → a12 j = ww_G cs e (ww_q e 0 0) j := by
    rw [ww_q0 (by omega)]
    exact hG
  refine pk_loop (fun n i s => wX_pass_2 post (ww_V e) (-1) n (nI i) kn (ww_V e) (nI (ww_T e)) 0 a1 a2 a3 a4 a5 a6 a7 a8 a9 a10 a11 s) (fun i s => ∀ j, j < 6 → s j = ww_G cs e (ww_q e i 0) j) (ww_T e) 0 a12 (by omega) hG ?_ ?_
  · intro n s h
    have h : ∀ j, j < 6 → s j = ww_G cs e (ww_q e (ww_T e) 0) j := h
    rw [ww_q1 (by omega)] at h
    exact pk_le (ww_T e) (ww_T e) (fun _ => H s h) (fun z => absurd z (by omega))
  · intro n i s hi h hw
    have ho : ww_o e i < 6 := ww_oin he
    obtain ⟨c, c1, c2⟩ := ww_Go he hi (fun j hj => (hk j hj).2)
    refine pk_le (ww_T e) i (fun z => absurd z (by omega)) (fun _ => ⟨pk_in i 6 (by omega), nm_r (e' := nI (ww_o e i)) (by rw [nI_clamp (by omega)]; exact h8 i hi) ?_⟩)
    refine ww_br (ww_tV e he _ ho) (fun hl => ⟨pk_in _ 6 ho, ?_⟩) (fun hl => absurd ww_ol hl)
    refine br_f ?_ (ww_largest (ww_pa52 he hi ho hF hk h hw))
    have h : ∀ j, j < 6 → s j = ww_G cs e (ww_q e i 0) j := h
    rw [nI_clamp (by omega), h _ ho, c2]
    exact ww_le0 c1
theorem ww_weigh {cs : Nat → Nat} (he : e < 6) (hF : ∀ j, j < 6 → a5 j = ww_nx e j) (h8 : ∀ j, j < ww_T e → a8 j = nI (ww_o e j)) (hk : ∀ j, j < 6 → a10 j = nI (cs j) ∧ cs j ≤ 50)
    (H : ∀ a12 : Nat → Int32, (∀ j, j < 6 → a12 j = ww_G cs e 1 j) → post (kn, ww_V e, nI (ww_T e), 0, a1, a2, a3, a4, a5, a6, a7, a8, a9, a10, a11, a12)) :
    wpX_weigh post (kn, ww_V e, nI (ww_T e), 0, a1, a2, a3, a4, a5, a6, a7, a8, a9, a10, a11, a12) := by
  unfold wpX_weigh
  dsimp only
  refine ⟨1, br_t (by decide) (ww_begin (fun b12 h12 => ww_largest ?_))⟩
  have k0 := hk 0 (by omega)
  refine ww_comeTo (b := 0) (c := cs 0) (by omega) (h12 0 (by omega)) (by omega) (by rw [k0.1]; exact Int32.zero_add _) ?_
  refine ww_pass he hF h8 hk ?_ H
  refine ww_put h12 ww_G0.symm ?_
  intro j _ hj
  unfold ww_G
  rw [if_neg hj, if_neg (fun z => absurd z.2 (by omega))]
/-! worst, dominators -/
theorem ww_isB {post : Int32 → Prop} {b : Nat} (hb : b < 6) (H : post 1) : wpX_isBlock post () (nI b) := by
  unfold wpX_isBlock
  exact br_f (nI_pos (by omega)) (pk_le 6 b (fun z => absurd z (by omega)) (fun _ => H))
theorem ww_worst {post : Int32 → St2 → Prop} {cs : Nat → Nat} {b : Nat} (he : e < 6) (hb : b < 6) (hF : ∀ j, j < 6 → a5 j = ww_nx e j) (h8 : ∀ j, j < ww_T e → a8 j = nI (ww_o e j)) (hk : ∀ j, j < 6 → a1 j = nI (cs j) ∧ cs j ≤ 50)
    (H : ∀ a10 a12 : Nat → Int32, post (ww_w cs e b) (1, ww_V e, nI (ww_T e), 0, a1, a2, a3, a4, a5, a6, a7, a8, a9, a10, a11, a12)) :
    wpX_worst post (1, ww_V e, nI (ww_T e), 0, a1, a2, a3, a4, a5, a6, a7, a8, a9, a10, a11, a12) (nI b) := by
  unfold wpX_worst
  dsimp only
  refine ww_isB hb (br_f ww_10 (ww_isRegular he ?_))
  dsimp only
  refine br_f ww_10 (ww_useCosts (fun b10 h10 => ?_))
  dsimp only
  refine ww_weigh (cs := cs) he hF h8 (fun j hj => ⟨(h10 j hj).trans (hk j hj).1, (hk j hj).2⟩) (fun b12 h12 => ?_)
  dsimp only
  refine ⟨pk_in b 6 hb, ?_⟩
  rw [nI_clamp (by omega), h12 b hb]
  have k0 := (hk 0 (by omega)).2
  have ke := (hk e he).2
  have HH := H b10 b12
  by_cases z0 : b = 0
  · subst z0
    rw [ww_G0]
    have hw : ww_w cs e 0 = nI (cs 0) := by
      unfold ww_w
      rw [if_pos rfl]
    rw [hw] at HH
    exact br_f (ww_le0 (by omega)) ⟨pk_in 0 6 hb, HH⟩
  · by_cases ze : b = e
    · subst ze
      rw [ww_Ge z0]
      have hw : ww_w cs b b = nI (cs 0 + cs b) := by
        unfold ww_w
        rw [if_neg z0, if_pos rfl]
      rw [hw] at HH
      exact br_f (ww_le0 (by omega)) ⟨pk_in b 6 hb, HH⟩
    · have hg : ww_G cs e 1 b = (-1000000) := by
        unfold ww_G
        rw [if_neg z0, if_neg (fun y => ze y.1)]
      have hw : ww_w cs e b = (-1) := by
        unfold ww_w
        rw [if_neg z0, if_neg ze]
      rw [hw] at HH
      rw [hg]
      exact br_t (by decide) HH
theorem ww_dominators {post : Int32 → St2 → Prop} {b : Nat} (hb : b < 6) (hD : ∀ j, j < 6 → a4 j = ww_D e j) (H : post (ww_D e b) (1, lv, od, hc, a1, a2, a3, a4, a5, a6, a7, a8, a9, a10, a11, a12)) : wpX_dominators post (1, lv, od, hc, a1, a2, a3, a4, a5, a6, a7, a8, a9, a10, a11, a12) (nI b) := by
  unfold wpX_dominators
  dsimp only
  refine ww_isB hb (br_f ww_10 (ww_learned ?_))
  dsimp only
  refine ⟨pk_in b 6 hb, ?_⟩
  rw [nI_clamp (by omega), hD b hb]
  exact H
end
end
section
/-! what the law's flags are -/
def ww_f (q : Bool) : Int32 := if q = true then 1 else 0
def ww_in5 (x : Int32) : Bool := decide (¬ x < 0 ∧ ¬ 6 ≤ x)
def ww_50 (c : Int32) : Bool := decide (¬ c < 0 ∧ c ≤ 50)
def ww_n3 (n : Int32) : Bool := decide (¬ n < 1 ∧ n ≤ 3)
def ww_j (a b : Int32) : Bool := ww_in5 a && (ww_in5 b && decide (¬ a = b))
def ww_cm (a b : Int32) : Bool := ww_j a b && decide (a = 0)
def ww_p (b c : Int32) : Bool := ww_in5 b && ww_50 c
theorem ww_56 (x : Int32) : 5 < x ↔ 6 ≤ x := by
  rw [Int32.lt_iff_toInt_lt, Int32.le_iff_toInt_le]
  have h5 : (5 : Int32).toInt = 5 := by decide
  have h6 : (6 : Int32).toInt = 6 := by decide
  rw [h5, h6]
  omega
theorem ww_nle (x y : Int32) : x < y ↔ ¬ y ≤ x := by
  rw [Int32.lt_iff_toInt_lt, Int32.le_iff_toInt_le]
  omega
theorem ww_f1 : ¬ ww_f true = 0 := ww_10
theorem ww_f0 : ww_f false = 0 := rfl
theorem ww_fbr {q : Bool} {A B : Prop} (t : q = true → B) (f : q = false → A) : (ww_f q = 0 → A) ∧ (¬ ww_f q = 0 → B) := by
  cases q
  · exact br_t rfl (f rfl)
  · exact br_f ww_10 (t rfl)
theorem ww_in5N {x : Int32} (h : ww_in5 x = true) : ∃ j, j < 6 ∧ x = nI j := by
  have g := of_decide_eq_true h
  rcases pk_ix x (n := 6) (by omega) with z | z | z
  · exact absurd z g.1
  · exact absurd z g.2
  · exact z
theorem ww_Nin5 {j : Nat} (h : j < 6) : ww_in5 (nI j) = true :=
  decide_eq_true ⟨nI_pos (by omega), nI_ge (b := 6) h (by omega)⟩
theorem ww_isBl {post : Int32 → Prop} {x : Int32} (H : post (ww_f (ww_in5 x))) : wpX_isBlock post () x := by
  unfold wpX_isBlock
  have hf : ¬ (¬ x < 0 ∧ ¬ 6 ≤ x) → post 0 := fun z => by
    have e : ww_in5 x = false := decide_eq_false z
    rw [e] at H
    exact H
  refine br_c (fun z => hf (fun y => y.1 z)) (fun z => br_c (fun y => hf (fun w => w.2 y)) (fun y => ?_))
  have e : ww_in5 x = true := decide_eq_true ⟨z, y⟩
  rw [e] at H
  exact H
section
variable {post : Int32 → St2 → Prop} {kn lv od hc : Int32} {a1 a2 a3 a4 a5 a6 a7 a8 a9 a10 a11 a12 : Nat → Int32} {e : Nat}
theorem ww_P0 {a3 : Nat → Int32} (h : a3 0 = 0) : ww_P 0 a3 := by
  intro j _ hl
  have hj : j = 0 := hl.elim id id
  subst hj
  exact h
theorem ww_tN0 : ∀ e, e < 6 → e ≠ 0 → ((0 : Int32) ||| ((1 : Int32) <<< (nI e &&& 31))).toInt16.toInt32 = ww_nx e 0 := by decide +kernel
theorem ww_join {a b : Int32} (H : ∀ (a3 : Nat → Int32) (e : Nat), e < 6 → ww_P e a3 → (ww_cm a b = true → b = nI e ∧ e ≠ 0) → (ww_cm a b = false → e = 0) → post (ww_f (ww_j a b)) (0, lv, od, hc, a1, a2, a3, a4, a5, a6, a7, a8, a9, a10, a11, a12)) :
    wpX_join post (0, lv, od, hc, a1, a2, (fun _ => 0), a4, a5, a6, a7, a8, a9, a10, a11, a12) a b := by
  have hno : ww_j a b = false → post 0 (0, lv, od, hc, a1, a2, (fun _ => 0), a4, a5, a6, a7, a8, a9, a10, a11, a12) := fun z => by
    have hcm : ww_cm a b = false := by
      unfold ww_cm
      rw [z]
      rfl
    have h := H (fun _ => 0) 0 (by omega) (ww_P0 rfl) (fun y => absurd (y.symm.trans hcm) (by decide)) (fun _ => rfl)
    rw [z] at h
    exact h
  unfold wpX_join
  dsimp only
  refine ww_isBl (ww_fbr (fun ha => ww_isBl (ww_fbr (fun hb => br_c (fun q => hno ?_) (fun q => ?_)) (fun hb => hno ?_))) (fun ha => hno ?_))
  · unfold ww_j
    rw [decide_eq_false (fun y => y q), Bool.and_false, Bool.and_false]
  · have hj : ww_j a b = true := by
      unfold ww_j
      rw [ha, hb, decide_eq_true q]
      rfl
    obtain ⟨i, hi, rfl⟩ := ww_in5N ha
    obtain ⟨k, hk, rfl⟩ := ww_in5N hb
    have hik : i ≠ k := fun y => q (by rw [y])
    refine ⟨pk_in i 6 hi, pk_in i 6 hi, nm_e ?_⟩
    rw [nI_clamp (by omega)]
    rw [hj] at H
    by_cases h0 : i = 0
    · subst h0
      have hcm : ww_cm (nI 0) (nI k) = true := by
        unfold ww_cm
        rw [hj, decide_eq_true (show nI 0 = 0 from rfl)]
        rfl
      refine H _ k hk ?_ (fun _ => ⟨rfl, fun y => hik y.symm⟩) (fun y => absurd (y.symm.trans hcm) (by decide))
      intro j _ hl
      by_cases g : j = 0
      · subst g
        rw [pk_us]
        exact ww_tN0 k hk (fun y => hik y.symm)
      · rw [pk_un g]
        unfold ww_nx
        rw [if_neg g]
    · have hcm : ww_cm (nI i) (nI k) = false := by
        unfold ww_cm
        rw [decide_eq_false (nI_ne0 (by omega) (by omega)), Bool.and_false]
      refine H _ 0 (by omega) (ww_P0 ?_) (fun y => absurd (y.symm.trans hcm) (by decide)) (fun _ => rfl)
      rw [pk_un (fun y => h0 y.symm)]
  · unfold ww_j
    rw [hb, Bool.false_and, Bool.and_false]
  · unfold ww_j
    rw [ha, Bool.false_and]
theorem ww_tb : ∀ k, k < 51 → (nI k).toInt8.toInt32 = nI k := by decide +kernel
theorem ww_cost {b c : Int32} (H : ∀ (a1 : Nat → Int32) (cs : Nat → Nat), (∀ j, j < 6 → a1 j = nI (cs j) ∧ cs j ≤ 50) → (∀ j, j < 6 → b = nI j → nI (cs j) = if ww_p b c = true then c else 0) → (∀ j, j < 6 → ¬ b = nI j → cs j = 0) → post (ww_f (ww_p b c)) (kn, lv, od, hc, a1, a2, a3, a4, a5, a6, a7, a8, a9, a10, a11, a12)) :
    wpX_cost post (kn, lv, od, hc, (fun _ => 0), a2, a3, a4, a5, a6, a7, a8, a9, a10, a11, a12) b c := by
  have hno : ww_p b c = false → post 0 (kn, lv, od, hc, (fun _ => 0), a2, a3, a4, a5, a6, a7, a8, a9, a10, a11, a12) := fun z => by
    have h := H (fun _ => 0) (fun _ => 0) (fun j _ => ⟨rfl, by omega⟩) (fun j _ _ => by rw [z]; rfl) (fun j _ _ => rfl)
    rw [z] at h
    exact h
  unfold wpX_cost
  dsimp only
  refine ww_isBl (ww_fbr (fun hb => br_c (fun q => hno ?_) (fun q => br_c (fun q2 => ?_) (fun q2 => hno ?_))) (fun hb => hno ?_))
  · unfold ww_p ww_50
    rw [decide_eq_false (fun y => y.1 q), Bool.and_false]
  · have hp : ww_p b c = true := by
      unfold ww_p ww_50
      rw [hb, decide_eq_true ⟨q, q2⟩]
      rfl
    rw [hp] at H
    obtain ⟨k, hk, rfl⟩ := ww_in5N hb
    obtain ⟨m, hm, rfl⟩ := nI_of2 (M := 50) (n := 50) (by decide) q q2
    refine ⟨pk_in k 6 hk, nm_e ?_⟩
    rw [nI_clamp (by omega), ww_tb m (by omega)]
    refine H _ (fun j => if j = k then m else 0) ?_ ?_ ?_
    · intro j hj
      by_cases g : j = k
      · subst g
        rw [pk_us, if_pos rfl]
        exact ⟨rfl, hm⟩
      · rw [pk_un g, if_neg g]
        exact ⟨rfl, by omega⟩
    · intro j hj g
      have : k = j := (nI_eq (by omega) (by omega)).mp g
      rw [if_pos this.symm, if_pos rfl]
    · intro j hj g
      rw [if_neg (fun y => g (by rw [y]))]
  · unfold ww_p ww_50
    rw [decide_eq_false (fun y => q2 y.2), Bool.and_false]
  · unfold ww_p
    rw [hb, Bool.false_and]
theorem ww_bound {b n : Int32} (H : ∀ a2 : Nat → Int32, post (ww_f (ww_in5 b && ww_n3 n)) (kn, lv, od, hc, a1, a2, a3, a4, a5, a6, a7, a8, a9, a10, a11, a12)) :
    wpX_bound post (kn, lv, od, hc, a1, a2, a3, a4, a5, a6, a7, a8, a9, a10, a11, a12) b n := by
  have hno : (ww_in5 b && ww_n3 n) = false → post 0 (kn, lv, od, hc, a1, a2, a3, a4, a5, a6, a7, a8, a9, a10, a11, a12) := fun z => by
    have h := H a2
    rw [z] at h
    exact h
  unfold wpX_bound
  dsimp only
  refine ww_isBl (ww_fbr (fun hb => br_c (fun q => hno ?_) (fun q => br_c (fun q2 => ?_) (fun q2 => hno ?_))) (fun hb => hno ?_))
  · unfold ww_n3
    rw [decide_eq_false (fun y => y.1 q), Bool.and_false]
  · have hp : (ww_in5 b && ww_n3 n) = true := by
      unfold ww_n3
      rw [hb, decide_eq_true ⟨q, q2⟩]
      rfl
    rw [hp] at H
    obtain ⟨k, hk, rfl⟩ := ww_in5N hb
    exact ⟨pk_in k 6 hk, nm_e (H _)⟩
  · unfold ww_n3
    rw [decide_eq_false (fun y => q2 y.2), Bool.and_false]
  · rw [hb, Bool.false_and]
theorem ww_live (he : e < 6) (hP : ww_P e a3)
    (H : ∀ a4 a5 a6 a7 a8 : Nat → Int32, (∀ j, j < 6 → a4 j = ww_D e j) → (∀ j, j < 6 → a5 j = ww_nx e j) → (∀ j, j < ww_T e → a8 j = nI (ww_o e j)) → post (ww_V e) (1, ww_V e, nI (ww_T e), 0, a1, a2, a3, a4, a5, a6, a7, a8, a9, a10, a11, a12)) :
    wpX_live post (0, lv, od, hc, a1, a2, a3, a4, a5, a6, a7, a8, a9, a10, a11, a12) := by
  unfold wpX_live
  dsimp only
  exact ww_learn he hP H
theorem ww_worstL {b : Int32} {cs : Nat → Nat} (he : e < 6) (hF : ∀ j, j < 6 → a5 j = ww_nx e j) (h8 : ∀ j, j < ww_T e → a8 j = nI (ww_o e j)) (hk : ∀ j, j < 6 → a1 j = nI (cs j) ∧ cs j ≤ 50)
    (H : ∀ (w : Int32) (a10 a12 : Nat → Int32), (ww_in5 b = false → w = (-1)) → (∀ j, j < 6 → b = nI j → w = ww_w cs e j) → post w (1, ww_V e, nI (ww_T e), 0, a1, a2, a3, a4, a5, a6, a7, a8, a9, a10, a11, a12)) :
    wpX_worst post (1, ww_V e, nI (ww_T e), 0, a1, a2, a3, a4, a5, a6, a7, a8, a9, a10, a11, a12) b := by
  by_cases hb : ww_in5 b = true
  · obtain ⟨k, hk6, rfl⟩ := ww_in5N hb
    refine ww_worst he hk6 hF h8 hk (fun b10 b12 => H _ b10 b12 (fun z => absurd (hb.symm.trans z) (by decide)) (fun j hj g => ?_))
    rw [(nI_eq (by omega) (by omega)).mp g]
  · have hb' : ww_in5 b = false := Bool.eq_false_iff.mpr hb
    unfold wpX_worst
    dsimp only
    refine ww_isBl (ww_fbr (fun z => absurd z hb) (fun _ => H _ a10 a12 (fun _ => rfl) (fun j hj g => ?_)))
    subst g
    exact absurd (ww_Nin5 hj) hb
theorem ww_domL {b : Int32} (hD : ∀ j, j < 6 → a4 j = ww_D e j)
    (H : ∀ d : Int32, (ww_in5 b = false → d = 0) → (∀ j, j < 6 → b = nI j → d = ww_D e j) → post d (1, lv, od, hc, a1, a2, a3, a4, a5, a6, a7, a8, a9, a10, a11, a12)) :
    wpX_dominators post (1, lv, od, hc, a1, a2, a3, a4, a5, a6, a7, a8, a9, a10, a11, a12) b := by
  by_cases hb : ww_in5 b = true
  · obtain ⟨k, hk6, rfl⟩ := ww_in5N hb
    refine ww_dominators hk6 hD (H _ (fun z => absurd (hb.symm.trans z) (by decide)) (fun j hj g => ?_))
    rw [(nI_eq (by omega) (by omega)).mp g]
  · unfold wpX_dominators
    dsimp only
    refine ww_isBl (ww_fbr (fun z => absurd z hb) (fun _ => H _ (fun _ => rfl) (fun j hj g => ?_)))
    subst g
    exact absurd (ww_Nin5 hj) hb
end
theorem ww_init {post : St2 → Prop} {mc ms : Nat} (hm : 12 ≤ mc) (hs : 102 ≤ ms) (H : ∀ a2 : Nat → Int32, post (0, 0, 0, 0, (fun _ => 0), a2, (fun _ => 0), (fun _ => 0), (fun _ => 0), (fun _ => 0), (fun _ => 0), (fun _ => 0), (fun _ => 0), (fun _ => 0), (fun _ => 0), (fun _ => 0))) : wpX_init post mc ms (0, 0, 0, 0) := by
  unfold wpX_init
  dsimp only
  refine ⟨by omega, by omega, by omega, by omega, by omega, by omega, by omega, by omega, by omega, by omega, by omega, by omega, by omega, by omega, by omega, by omega, by omega, by omega, by omega, by omega, by omega, by omega, by omega, by omega, ?_⟩
  refine pk_loop (fun n i s => wX_init_102 post mc ms 12 102 0 0 0 0 n (nI i) (fun _ => 0) s (fun _ => 0) (fun _ => 0) (fun _ => 0) (fun _ => 0) (fun _ => 0) (fun _ => 0) (fun _ => 0) (fun _ => 0) (fun _ => 0) (fun _ => 0)) (fun _ _ => True) 6 0 (fun _ => 0) (by omega) trivial ?_ ?_
  · intro n s _
    exact pk_le 6 6 (fun _ => H s) (fun z => absurd z (by omega))
  · intro n i s hi _ hw
    exact pk_le 6 i (fun z => absurd z (by omega)) (fun _ => ⟨pk_in i 6 hi, nm_e (nm_r (nI_1 i) (hw _ trivial))⟩)
end
section
section
variable {post : Int32 → St0 → Prop} {mc ms kc ks : Nat} {x0 x1 x2 x3 x5 x6 x7 x8 x9 x10 x15 x16 z0 z1 : Int32} {A B J P C : Bool}
/-! the law's checks, from the last one up -/
theorem ww_274 (hp : post 1 ()) (h : z1 = z0) : wL_lawOf_274 post mc ms z0 z1 kc ks := by
  unfold wL_lawOf_274
  exact br_t h hp
theorem ww_240 (hp : post 1 ()) (hz : z1 = z0) (hw : x9 = x16) (hd : x10 = if x1 = 0 then 1 else if x15 = 0 then 0 else (1 ||| ((1 : Int32) <<< (x1 &&& 31)))) : wL_lawOf_240 post mc ms x1 x9 x10 x15 x16 z0 z1 kc ks := by
  unfold wL_lawOf_240
  refine br_t hz (br_t hw (br_c (fun h => ?_) (fun h => br_c (fun g => ?_) (fun g => ?_))))
  · rw [if_pos h] at hd
    exact ww_274 hp hd
  · rw [if_neg h, if_pos g] at hd
    exact ww_274 hp hd
  · rw [if_neg h, if_neg g] at hd
    exact ww_274 hp hd
theorem ww_221 (hp : post 1 ()) (hz : z1 = z0) (h8 : x8 = if x15 = 0 then 1 else (1 ||| ((1 : Int32) <<< (x1 &&& 31)))) (hw : x9 = x16) (hd : x10 = if x1 = 0 then 1 else if x15 = 0 then 0 else (1 ||| ((1 : Int32) <<< (x1 &&& 31)))) : wL_lawOf_221 post mc ms x1 x8 x9 x10 x15 x16 z0 z1 kc ks := by
  unfold wL_lawOf_221
  refine br_t hz (br_c (fun g => ?_) (fun g => ?_))
  · rw [if_pos g] at h8
    exact ww_240 hp h8 hw hd
  · rw [if_neg g] at h8
    exact ww_240 hp h8 hw hd
theorem ww_183 (hp : post 1 ()) (h5 : x5 = ww_f J) (h6 : x6 = ww_f P) (h7 : x7 = ww_f (B && ww_n3 x3)) (h8 : x8 = if x15 = 0 then 1 else (1 ||| ((1 : Int32) <<< (x1 &&& 31)))) (hw : x9 = z0) (hd : x10 = if x1 = 0 then 1 else if x15 = 0 then 0 else (1 ||| ((1 : Int32) <<< (x1 &&& 31)))) : wL_lawOf_183 post mc ms x1 x3 x5 x6 x7 x8 x9 x10 (ww_f B) (ww_f J) (ww_f P) x15 z0 kc ks := by
  have h0 : (B && ww_n3 x3) = false → wL_lawOf_220 post mc ms x1 x8 x9 x10 x15 z0 x7 kc ks := fun z => by
    rw [z] at h7
    unfold wL_lawOf_220
    exact ww_221 hp h7 h8 hw hd
  unfold wL_lawOf_183
  refine br_t h5 (br_t h6 (ww_fbr (fun hb => br_c (fun q => h0 ?_) (fun q => br_c (fun q2 => h0 ?_) (fun q2 => ?_))) (fun hb => h0 ?_)))
  · unfold ww_n3
    rw [decide_eq_false (fun y => y.1 q), Bool.and_false]
  · unfold ww_n3
    rw [decide_eq_false (fun y => (ww_nle _ _).mp q2 y.2), Bool.and_false]
  · have q3 : x3 ≤ 3 := Classical.byContradiction (fun y => q2 ((ww_nle _ _).mpr y))
    have z : (B && ww_n3 x3) = true := by
      unfold ww_n3
      rw [hb, decide_eq_true ⟨q, q3⟩]
      rfl
    rw [z] at h7
    exact ww_221 hp h7 h8 hw hd
  · rw [hb, Bool.false_and]
theorem ww_169 (hp : post 1 ()) (h5 : x5 = ww_f J) (h6 : x6 = ww_f P) (h7 : x7 = ww_f (B && ww_n3 x3)) (h8 : x8 = if x15 = 0 then 1 else (1 ||| ((1 : Int32) <<< (x1 &&& 31)))) (hw : x9 = if P = true then x2 else 0) (hd : x10 = if x1 = 0 then 1 else if x15 = 0 then 0 else (1 ||| ((1 : Int32) <<< (x1 &&& 31)))) : wL_lawOf_169 post mc ms x1 x2 x3 x5 x6 x7 x8 x9 x10 (ww_f B) (ww_f J) (ww_f P) x15 kc ks := by
  unfold wL_lawOf_169
  refine ww_fbr (fun z => ?_) (fun z => ?_)
  · rw [if_pos z] at hw
    exact ww_183 hp h5 h6 h7 h8 hw hd
  · rw [if_neg (fun y => absurd (z.symm.trans y) (by decide))] at hw
    exact ww_183 hp h5 h6 h7 h8 hw hd
theorem ww_149 (hp : post 1 ()) (h5 : x5 = ww_f J) (h6 : x6 = ww_f P) (h7 : x7 = ww_f (B && ww_n3 x3)) (h8 : x8 = if ww_f C = 0 then 1 else (1 ||| ((1 : Int32) <<< (x1 &&& 31))))
    (w1 : B = false → x9 = (-1)) (w2 : B = true → (x1 = 0 ∨ C = true) → x9 = if P = true then x2 else 0) (w3 : B = true → ¬ x1 = 0 → C = false → x9 = (-1))
    (hd : x10 = if x1 = 0 then 1 else if ww_f C = 0 then 0 else (1 ||| ((1 : Int32) <<< (x1 &&& 31)))) : wL_lawOf_149 post mc ms x1 x2 x3 x5 x6 x7 x8 x9 x10 (ww_f B) (ww_f J) (ww_f P) (ww_f C) kc ks := by
  unfold wL_lawOf_149
  exact ww_fbr (fun hb => br_c (fun q => ww_169 hp h5 h6 h7 h8 (w2 hb (Or.inl q)) hd) (fun q => ww_fbr (fun hc => ww_169 hp h5 h6 h7 h8 (w2 hb (Or.inr hc)) hd) (fun hc => ww_183 hp h5 h6 h7 h8 (w3 hb q hc) hd))) (fun hb => ww_183 hp h5 h6 h7 h8 (w1 hb) hd)
theorem ww_133 (hJ : J = ww_j x0 x1) (H : wL_lawOf_149 post mc ms x1 x2 x3 x5 x6 x7 x8 x9 x10 (ww_f B) (ww_f J) (ww_f P) (ww_f (ww_cm x0 x1)) kc ks) : wL_lawOf_133 post mc ms x0 x1 x2 x3 x5 x6 x7 x8 x9 x10 (ww_f B) (ww_f J) (ww_f P) kc ks := by
  have h0 : ww_cm x0 x1 = false → wL_lawOf_148 post mc ms x1 x2 x3 x5 x6 x7 x8 x9 x10 (ww_f B) (ww_f J) (ww_f P) kc ks := fun z => by
    rw [z] at H
    exact H
  unfold wL_lawOf_133
  refine ww_fbr (fun z => br_c (fun q => ?_) (fun q => h0 ?_)) (fun z => h0 ?_)
  · have g : ww_cm x0 x1 = true := by
      unfold ww_cm
      rw [← hJ, z, decide_eq_true q]
      rfl
    rw [g] at H
    exact H
  · unfold ww_cm
    rw [decide_eq_false q, Bool.and_false]
  · unfold ww_cm
    rw [← hJ, z, Bool.false_and]
theorem ww_111 (hB : B = ww_in5 x1) (H : wL_lawOf_133 post mc ms x0 x1 x2 x3 x5 x6 x7 x8 x9 x10 (ww_f B) (ww_f J) (ww_f (ww_p x1 x2)) kc ks) : wL_lawOf_111 post mc ms x0 x1 x2 x3 x5 x6 x7 x8 x9 x10 (ww_f B) (ww_f J) kc ks := by
  have h0 : ww_p x1 x2 = false → wL_lawOf_132 post mc ms x0 x1 x2 x3 x5 x6 x7 x8 x9 x10 (ww_f B) (ww_f J) kc ks := fun z => by
    rw [z] at H
    exact H
  unfold wL_lawOf_111
  refine ww_fbr (fun z => br_c (fun q => h0 ?_) (fun q => br_c (fun q2 => h0 ?_) (fun q2 => ?_))) (fun z => h0 ?_)
  · unfold ww_p ww_50
    rw [decide_eq_false (fun y => y.1 q), Bool.and_false]
  · unfold ww_p ww_50
    rw [decide_eq_false (fun y => (ww_nle _ _).mp q2 y.2), Bool.and_false]
  · have q3 : x2 ≤ 50 := Classical.byContradiction (fun y => q2 ((ww_nle _ _).mpr y))
    have g : ww_p x1 x2 = true := by
      unfold ww_p ww_50
      rw [← hB, z, decide_eq_true ⟨q, q3⟩]
      rfl
    rw [g] at H
    exact H
  · unfold ww_p
    rw [← hB, z, Bool.false_and]
theorem ww_89 (hA : A = ww_in5 x0) (hB : B = ww_in5 x1) (H : wL_lawOf_111 post mc ms x0 x1 x2 x3 x5 x6 x7 x8 x9 x10 (ww_f B) (ww_f (ww_j x0 x1)) kc ks) : wL_lawOf_89 post mc ms x0 x1 x2 x3 x5 x6 x7 x8 x9 x10 (ww_f A) (ww_f B) kc ks := by
  have h0 : ww_j x0 x1 = false → wL_lawOf_110 post mc ms x0 x1 x2 x3 x5 x6 x7 x8 x9 x10 (ww_f B) kc ks := fun z => by
    rw [z] at H
    exact H
  unfold wL_lawOf_89
  refine ww_fbr (fun ha => ww_fbr (fun hb => br_c (fun q => h0 ?_) (fun q => ?_)) (fun hb => h0 ?_)) (fun ha => h0 ?_)
  · unfold ww_j
    rw [decide_eq_false (fun y => y q), Bool.and_false, Bool.and_false]
  · have g : ww_j x0 x1 = true := by
      unfold ww_j
      rw [← hA, ← hB, ha, hb, decide_eq_true q]
      rfl
    rw [g] at H
    exact H
  · unfold ww_j
    rw [← hB, hb, Bool.false_and, Bool.and_false]
  · unfold ww_j
    rw [← hA, ha, Bool.false_and]
theorem ww_5br {K : Int32 → Prop} {x : Int32} (H : K (ww_f (ww_in5 x))) : (x < 0 → K 0) ∧ (¬ x < 0 → ((5 < x → K 0) ∧ (¬ 5 < x → K 1))) := by
  have h0 : ¬ (¬ x < 0 ∧ ¬ 6 ≤ x) → K 0 := fun z => by
    have g : ww_in5 x = false := decide_eq_false z
    rw [g] at H
    exact H
  refine br_c (fun q => h0 (fun y => y.1 q)) (fun q => br_c (fun q2 => h0 (fun y => y.2 ((ww_56 x).mp q2))) (fun q2 => ?_))
  have g : ww_in5 x = true := decide_eq_true ⟨q, fun y => q2 ((ww_56 x).mpr y)⟩
  rw [g] at H
  exact H
theorem ww_73 (hA : A = ww_in5 x0) (H : wL_lawOf_111 post mc ms x0 x1 x2 x3 x5 x6 x7 x8 x9 x10 (ww_f (ww_in5 x1)) (ww_f (ww_j x0 x1)) kc ks) : wL_lawOf_73 post mc ms x0 x1 x2 x3 x5 x6 x7 x8 x9 x10 (ww_f A) kc ks := by
  unfold wL_lawOf_73
  exact ww_5br (K := fun z => wL_lawOf_89 post mc ms x0 x1 x2 x3 x5 x6 x7 x8 x9 x10 (ww_f A) z kc ks) (ww_89 hA rfl H)
end
/-! the answers are what the law expects -/
theorem ww_tl : ∀ e, e < 6 → e ≠ 0 → ww_V e = 1 ||| ((1 : Int32) <<< (nI e &&& 31)) := by decide +kernel
theorem ww_end {a b c : Int32} {w d : Int32} {e : Nat} {cs : Nat → Nat} (he : e < 6) (hC : ww_cm a b = true → b = nI e ∧ e ≠ 0) (hN : ww_cm a b = false → e = 0)
    (k1 : ∀ j, j < 6 → b = nI j → nI (cs j) = if ww_p b c = true then c else 0) (k2 : ∀ j, j < 6 → ¬ b = nI j → cs j = 0)
    (w1 : ww_in5 b = false → w = (-1)) (w2 : ∀ j, j < 6 → b = nI j → w = ww_w cs e j) (d1 : ww_in5 b = false → d = 0) (d2 : ∀ j, j < 6 → b = nI j → d = ww_D e j) :
    (ww_V e = if ww_f (ww_cm a b) = 0 then 1 else (1 ||| ((1 : Int32) <<< (b &&& 31)))) ∧ (ww_in5 b = true → (b = 0 ∨ ww_cm a b = true) → w = if ww_p b c = true then c else 0) ∧ (ww_in5 b = true → ¬ b = 0 → ww_cm a b = false → w = (-1)) ∧ (d = if b = 0 then 1 else if ww_f (ww_cm a b) = 0 then 0 else (1 ||| ((1 : Int32) <<< (b &&& 31)))) := by
  have hb0 : ∀ j, j < 6 → b = nI j → j ≠ 0 → ¬ b = 0 := fun j hj g z y => nI_ne0 (n := j) (by omega) (by omega) (g.symm.trans y)
  cases hcm : ww_cm a b
  · have e0 := hN hcm
    subst e0
    refine ⟨by rw [if_pos ww_f0]; rfl, ?_, ?_, ?_⟩
    · intro _ h
      have hz : b = nI 0 := h.elim id (fun y => absurd y (by decide))
      rw [w2 0 (by omega) hz, ← k1 0 (by omega) hz]
      rfl
    · intro hb hz _
      obtain ⟨j, hj, g⟩ := ww_in5N hb
      have j0 : j ≠ 0 := fun y => hz (by rw [g, y]; rfl)
      rw [w2 j hj g]
      unfold ww_w
      rw [if_neg j0, if_neg j0]
    · by_cases hz : b = 0
      · rw [if_pos hz, d2 0 (by omega) hz]
        rfl
      · rw [if_neg hz, if_pos ww_f0]
        by_cases hb : ww_in5 b = true
        · obtain ⟨j, hj, g⟩ := ww_in5N hb
          have j0 : j ≠ 0 := fun y => hz (by rw [g, y]; rfl)
          rw [d2 j hj g]
          unfold ww_D
          rw [if_neg j0, if_neg j0]
        · exact d1 (Bool.eq_false_iff.mpr hb)
  · obtain ⟨g, hn⟩ := hC hcm
    have hz := hb0 e he g hn
    have hv : ww_V e = 1 ||| ((1 : Int32) <<< (b &&& 31)) := by
      rw [g]
      exact ww_tl e he hn
    refine ⟨?_, ?_, ?_, ?_⟩
    · rw [if_neg ww_f1]
      exact hv
    · intro _ _
      rw [w2 e he g, ← k1 e he g]
      unfold ww_w
      rw [if_neg hn, if_pos rfl, k2 0 (by omega) hz, Nat.zero_add]
    · intro _ _ h
      exact absurd h (by decide)
    · rw [if_neg hz, if_neg ww_f1, d2 e he g]
      unfold ww_D
      rw [if_neg hn, if_pos rfl]
      exact hv
theorem ww_lawOf (a b c n : Int32) : wpL_lawOf (fun r _ => r = 1) 13 118 () a b c n := by
  unfold wpL_lawOf
  refine ⟨by omega, by omega, 12, 102, by omega, by omega, ww_init (by omega) (by omega) (fun a2 => ?_)⟩
  dsimp only
  refine ww_join (fun a3 e he hP hC hN => ?_)
  dsimp only
  refine ww_cost (fun a1 cs hk k1 k2 => ?_)
  dsimp only
  refine ww_bound (fun b2 => ?_)
  dsimp only
  refine ww_live he hP (fun a4 a5 a6 a7 a8 h4 h5 h8 => ?_)
  dsimp only
  refine ww_worstL he h5 h8 hk (fun w a10 a12 w1 w2 => ?_)
  dsimp only
  refine ww_domL h4 (fun d d1 d2 => ?_)
  obtain ⟨t1, t2, t3, t4⟩ := ww_end (a := a) (c := c) he hC hN k1 k2 w1 w2 d1 d2
  refine ww_5br (K := fun z => wL_lawOf_73 (fun r _ => r = 1) 13 118 a b c n (ww_f (ww_j a b)) (ww_f (ww_p b c)) (ww_f (ww_in5 b && ww_n3 n)) (ww_V e) w d z (1 + 12) (16 + 102)) ?_
  exact ww_73 rfl (ww_111 rfl (ww_133 rfl (ww_149 rfl rfl rfl rfl t1 w1 t2 t3 t4)))
theorem ww_cell {post : Int32 → Prop} {L : Nat} {xs : Nat → Int32} (hL : L ≤ 4) (k : Nat) (hk : k < 4) (H : ∀ r, post r) : wpL_cellAt post L xs () (nI k) := by
  unfold wpL_cellAt
  exact pk_le L k (fun _ => H _) (fun z => ⟨pk_in k L z, H _⟩)
theorem i_vc (xs : Nat → Int32) (L : Nat) (hL : L ≤ 4) : wpL_law (fun r => r = 1) L xs := by
  unfold wpL_law
  refine ww_cell hL 0 (by omega) (fun a => ?_)
  refine ww_cell hL 1 (by omega) (fun b => ?_)
  refine ww_cell hL 2 (by omega) (fun c => ?_)
  refine ww_cell hL 3 (by omega) (fun n => ?_)
  exact ⟨13, 118, by omega, by omega, ww_lawOf a b c n⟩
end
