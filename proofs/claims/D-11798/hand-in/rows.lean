section
/-! the small methods, each as a plain function -/
section
variable {pr sz no on tw kn fs : Int32} {a1 a2 a3 a4 a5 a6 : Nat → Int32}
/-- bit w of a set -/
def zq_bit (x : Int32) (w : Nat) : Bool := decide (¬ ((x >>> (nI w &&& 31)) &&& 1) = 0)
theorem zq_nb : ∀ s, s < 16 → (nI s).toInt8.toInt32 = nI s := by decide +kernel
theorem zq_sym {post : Int32 → Prop} {u : St0} {s : Nat} (hs : s < 4) (h : post 1) : wpX_isSymbol post u (nI s) := by
  unfold wpX_isSymbol
  exact br_f (nI_pos (by omega)) (br_f (nI_ge (b := 4) hs (by decide)) h)
theorem zq_has {post : Int32 → Prop} {w : Nat} (hw : w < 10) (h0 : zq_bit pr w = false → post 0) (h1 : zq_bit pr w = true → post 1) :
    wpX_has post (pr, sz, no, on, tw, kn, fs, a1, a2, a3, a4, a5, a6) (nI w) := by
  unfold wpX_has
  dsimp only
  refine br_f (nI_pos (by omega)) (br_f (nI_ge (b := 10) hw (by decide)) (br_c (fun c => h0 ?_) (fun c => h1 ?_)))
  · unfold zq_bit; exact decide_eq_false (fun z => z c)
  · unfold zq_bit; exact decide_eq_true c
theorem zq_isf {post : Int32 → Prop} {w : Nat} (h0 : zq_bit fs w = false → post 0) (h1 : zq_bit fs w = true → post 1) :
    wpX_isFound post (pr, sz, no, on, tw, kn, fs, a1, a2, a3, a4, a5, a6) (nI w) := by
  unfold wpX_isFound
  dsimp only
  refine br_c (fun c => h0 ?_) (fun c => h1 ?_)
  · unfold zq_bit; exact decide_eq_false (fun z => z c)
  · unfold zq_bit; exact decide_eq_true c
/-! the three sets -/
def zq_m0 (sz s : Int32) : Int32 := (s &&& (((1 : Int32) <<< (sz &&& 31)) - 1)) &&& (-2)
def zq_m1 (sz s : Int32) : Int32 := (s &&& (((1 : Int32) <<< (sz &&& 31)) - 1)) &&& 1
theorem zq_mv0 {post : Int32 → Prop} {s : Int32} (h : post (zq_m0 sz s)) : wpX_movable post (pr, sz, no, on, tw, kn, fs, a1, a2, a3, a4, a5, a6) s 0 := by
  unfold wpX_movable
  dsimp only
  exact nm_e (br_t rfl h)
theorem zq_mv1 {post : Int32 → Prop} {s : Int32} (h : post (zq_m1 sz s)) : wpX_movable post (pr, sz, no, on, tw, kn, fs, a1, a2, a3, a4, a5, a6) s 1 := by
  unfold wpX_movable
  dsimp only
  exact nm_e (br_f (by decide) h)
def zq_lo1 (sz no on : Int32) : Int32 := on ||| (zq_m0 sz no <<< ((1 : Int32) &&& 31))
def zq_lo2 (sz no on tw : Int32) : Int32 := (tw ||| (zq_m0 sz (zq_lo1 sz no on) <<< ((1 : Int32) &&& 31))) ||| (zq_m1 sz no <<< ((1 : Int32) &&& 31))
theorem zq_lo {post : St2 → Prop} (h : post (pr, sz, no, zq_lo1 sz no on, zq_lo2 sz no on tw, kn, fs, a1, a2, a3, a4, a5, a6)) :
    wpX_leaveOut post (pr, sz, no, on, tw, kn, fs, a1, a2, a3, a4, a5, a6) := by
  unfold wpX_leaveOut
  dsimp only
  exact zq_mv0 (nm_e (zq_mv0 (nm_e (zq_mv1 (nm_e h)))))
def zq_re (sz no on tw : Int32) : Int32 :=
  if (no &&& ((1 : Int32) <<< (sz &&& 31))) = 0 then (if (on &&& ((1 : Int32) <<< (sz &&& 31))) = 0 then (if (tw &&& ((1 : Int32) <<< (sz &&& 31))) = 0 then 3 else 2) else 1) else 0
theorem zq_re_ok {post : Int32 → Prop} (h : post (zq_re sz no on tw)) : wpX_reached post (pr, sz, no, on, tw, kn, fs, a1, a2, a3, a4, a5, a6) := by
  unfold wpX_reached
  dsimp only
  refine nm_e (br_c (fun c1 => br_c (fun c2 => br_c (fun c3 => ?_) (fun c3 => ?_)) (fun c2 => ?_)) (fun c1 => ?_))
  · rw [zq_re, if_pos c1, if_pos c2, if_pos c3] at h; exact h
  · rw [zq_re, if_pos c1, if_pos c2, if_neg c3] at h; exact h
  · rw [zq_re, if_pos c1, if_neg c2] at h; exact h
  · rw [zq_re, if_neg c1] at h; exact h
/-- one symbol further: the three sets ahead of 'leaveOut' -/
def zq_b0 (sm no : Int32) : Int32 := (no &&& sm) <<< ((1 : Int32) &&& 31)
def zq_b1 (sz sm no on : Int32) : Int32 := (((on &&& sm) <<< ((1 : Int32) &&& 31)) ||| (zq_m0 sz no <<< ((1 : Int32) &&& 31))) ||| (no &&& (-2))
def zq_b2 (sz sm no on tw : Int32) : Int32 := ((((tw &&& sm) <<< ((1 : Int32) &&& 31)) ||| (zq_m0 sz on <<< ((1 : Int32) &&& 31))) ||| (on &&& (-2))) ||| ((zq_m1 sz no <<< ((1 : Int32) &&& 31)) ||| (no &&& 1))
/-- .. and behind it -/
def zq_c1 (sz sm no on : Int32) : Int32 := zq_lo1 sz (zq_b0 sm no) (zq_b1 sz sm no on)
def zq_c2 (sz sm no on tw : Int32) : Int32 := zq_lo2 sz (zq_b0 sm no) (zq_b1 sz sm no on) (zq_b2 sz sm no on tw)
theorem zq_ad {post : St2 → Prop} {s : Nat} {sm : Int32} (hs : s < 4) (hsm : a5 s = sm)
    (h : post (pr, sz, zq_b0 sm no, zq_c1 sz sm no on, zq_c2 sz sm no on tw, kn, fs, a1, a2, a3, a4, a5, a6)) :
    wpX_advance post (pr, sz, no, on, tw, kn, fs, a1, a2, a3, a4, a5, a6) (nI s) := by
  unfold wpX_advance
  dsimp only
  refine ⟨pk_in s 4 hs, nm_r (e' := sm) (by rw [nI_clamp (by omega)]; exact hsm) ?_⟩
  exact zq_mv0 (nm_e (zq_mv1 (nm_e (zq_mv0 (nm_e (nm_e (zq_lo h)))))))
end
end
section
/-! setOut, typosOf, learn -/
section
variable {pr sz no on tw kn fs : Int32} {a1 a2 a3 a4 a5 a6 : Nat → Int32}
/-- the places of the query q (its first n symbols) that have the symbol s -/
def zq_hv (q : Nat → Nat) : Nat → Nat → Int32
  | 0, _ => 0
  | n + 1, s => if s = q n then (zq_hv q n s ||| ((1 : Int32) <<< (nI n &&& 31))).toInt8.toInt32 else zq_hv q n s
theorem zq_so22 {post : St2 → Prop} {n : Nat} {q : Nat → Nat} (hn : n ≤ 6) (hq : ∀ i, i < n → q i < 4 ∧ a4 i = nI (q i)) (h0 : ∀ s, s < 4 → a5 s = 0)
    (H : ∀ a, (∀ s, s < 4 → a s = zq_hv q n s) → post (pr, nI n, 1, zq_lo1 (nI n) 1 0, zq_lo2 (nI n) 1 0 0, kn, fs, a1, a2, a3, a4, a, a6)) :
    ∃ g, wX_setOut_22 post pr (nI n) no on tw kn fs g 0 a1 a2 a3 a4 a5 a6 :=
  pk_loop (fun g i s => wX_setOut_22 post pr (nI n) no on tw kn fs g (nI i) a1 a2 a3 a4 s a6) (fun i s => ∀ k, k < 4 → s k = zq_hv q i k) n 0 a5 (by omega) (fun k hk => h0 k hk)
    (fun g s h => pk_le n n (fun _ => zq_lo (H s h)) (fun z => absurd z (by omega)))
    (fun g i s hi h hw => pk_le n i (fun z => absurd z (by omega)) (fun _ => ⟨pk_in i 6 (by omega), nm_r (e' := nI (q i)) (by rw [nI_clamp (by omega)]; exact (hq i hi).2)
      ⟨pk_in (q i) 4 (hq i hi).1, pk_in (q i) 4 (hq i hi).1, nm_e (nm_r (nI_1 i) (hw _ (by
        intro k hk
        have hqi := (hq i hi).1
        rw [nI_clamp (show q i < 2 ^ 31 by omega)]
        show (if k = q i then _ else s k) = if k = q i then _ else zq_hv q i k
        by_cases e : k = q i
        · rw [if_pos e, if_pos e, ← e, h k hk]
        · rw [if_neg e, if_neg e, h k hk])))⟩⟩))
theorem zq_so {post : St2 → Prop} {n : Nat} {q : Nat → Nat} (hn : n ≤ 6) (hq : ∀ i, i < n → q i < 4 ∧ a4 i = nI (q i))
    (H : ∀ a, (∀ s, s < 4 → a s = zq_hv q n s) → post (pr, nI n, 1, zq_lo1 (nI n) 1 0, zq_lo2 (nI n) 1 0 0, kn, fs, a1, a2, a3, a4, a, a6)) :
    wpX_setOut post (pr, nI n, no, on, tw, kn, fs, a1, a2, a3, a4, a5, a6) := by
  unfold wpX_setOut
  dsimp only
  exact pk_loop (fun g i s => wX_setOut_2 post pr (nI n) no on tw kn fs g (nI i) a1 a2 a3 a4 s a6) (fun i s => ∀ k, k < i → s k = 0) 4 0 a5 (by omega) (fun k hk => absurd hk (by omega))
    (fun g s h => pk_le 4 4 (fun _ => zq_so22 hn hq h H) (fun z => absurd z (by omega)))
    (fun g i s hi h hw => pk_le 4 i (fun z => absurd z (by omega)) (fun _ => ⟨pk_in i 4 hi, nm_e (nm_r (nI_1 i) (hw _ (by
      intro k hk
      rw [nI_clamp (show i < 2 ^ 31 by omega)]
      by_cases e : k = i
      · rw [e, pk_us]
      · rw [pk_un e]; exact h k (by omega))))⟩))
/-- the three sets behind k symbols of a word f -/
def zq_T (sz : Int32) (hv : Nat → Int32) (f : Nat → Nat) : Nat → Int32 × Int32 × Int32
  | 0 => (1, zq_lo1 sz 1 0, zq_lo2 sz 1 0 0)
  | k + 1 => (zq_b0 (hv (f k)) (zq_T sz hv f k).1, zq_c1 sz (hv (f k)) (zq_T sz hv f k).1 (zq_T sz hv f k).2.1, zq_c2 sz (hv (f k)) (zq_T sz hv f k).1 (zq_T sz hv f k).2.1 (zq_T sz hv f k).2.2)
def zq_R (sz : Int32) (hv : Nat → Int32) (f : Nat → Nat) (k : Nat) : Int32 := zq_re sz (zq_T sz hv f k).1 (zq_T sz hv f k).2.1 (zq_T sz hv f k).2.2
/-- the least number of typos over the first k symbols -/
def zq_L (sz : Int32) (hv : Nat → Int32) (f : Nat → Nat) : Nat → Int32
  | 0 => zq_R sz hv f 0
  | k + 1 => if zq_L sz hv f k ≤ zq_R sz hv f (k + 1) then zq_L sz hv f k else zq_R sz hv f (k + 1)
theorem zq_ty {post : Int32 → St2 → Prop} {n m w : Nat} {q f : Nat → Nat} (hn : n ≤ 6) (hm : m ≤ 6) (hw : w < 10) (hq : ∀ i, i < n → q i < 4 ∧ a4 i = nI (q i))
    (hl : a1 w = nI m) (hf : ∀ k, k < m → f k < 4 ∧ a3 (w * 6 + k) = nI (f k))
    (H : ∀ no on tw a, post (zq_L (nI n) (zq_hv q n) f m) (pr, nI n, no, on, tw, kn, fs, a1, a2, a3, a4, a, a6)) :
    wpX_typosOf post (pr, nI n, no, on, tw, kn, fs, a1, a2, a3, a4, a5, a6) (nI w) := by
  unfold wpX_typosOf
  dsimp only
  refine zq_so hn hq (fun a ha => zq_re_ok ?_)
  exact pk_loop (σ := Unit) (fun g k _ => wX_typosOf_11 post (nI w) g (zq_L (nI n) (zq_hv q n) f k) (nI k) pr (nI n) (zq_T (nI n) (zq_hv q n) f k).1 (zq_T (nI n) (zq_hv q n) f k).2.1 (zq_T (nI n) (zq_hv q n) f k).2.2 kn fs a1 a2 a3 a4 a a6) (fun _ _ => True) m 0 () (by omega) trivial
    (fun g _ _ => And.intro (pk_in w 10 hw) (pk_le m m (fun _ => H _ _ _ _) (fun z => absurd z (by omega)) (hx := by rw [nI_clamp (by omega)]; exact hl)))
    (fun g k _ hk _ hww => And.intro (pk_in w 10 hw) (pk_le m k (fun z => absurd z (by omega)) (hx := by rw [nI_clamp (by omega)]; exact hl) (fun _ => by
      have e6 : (nI w * 6) + nI k = nI (w * 6 + k) := by
        rw [show (6 : Int32) = nI 6 from rfl, pk_mul, nI_add]
      rw [e6, nI_clamp (show w * 6 + k < 2 ^ 31 by omega), (hf k hk).2]
      refine ⟨pk_in (w * 6 + k) 60 (by omega), zq_ad (hf k hk).1 (ha _ (hf k hk).1) (zq_re_ok ?_)⟩
      have t := hww () trivial
      refine br_c (fun c => nm_r (nI_1 k) ?_) (fun c => nm_r (nI_1 k) ?_)
      · have t' : zq_L (nI n) (zq_hv q n) f (k + 1) = zq_L (nI n) (zq_hv q n) f k := if_pos c
        rw [t'] at t
        exact t
      · have t' : zq_L (nI n) (zq_hv q n) f (k + 1) = zq_R (nI n) (zq_hv q n) f (k + 1) := if_neg c
        rw [t'] at t
        exact t)))
def zq_fg (n : Nat) : Int32 := if 3 ≤ n then (if 5 ≤ n then 2 else 1) else 0
theorem zq_fgv {post : Int32 → Prop} {n : Nat} (hn : n ≤ 6) (h : post (zq_fg n)) : wpX_forgiven post (pr, nI n, no, on, tw, kn, fs, a1, a2, a3, a4, a5, a6) := by
  unfold wpX_forgiven
  dsimp only
  unfold zq_fg at h
  refine pk_le 3 n (fun z => pk_le 5 n (fun y => ?_) (fun y => ?_)) (fun z => ?_)
  · rw [if_pos z, if_pos y] at h; exact h
  · rw [if_pos z, if_neg (by omega)] at h; exact h
  · rw [if_neg (by omega)] at h; exact h
/-- the found set over the words below w -/
def zq_F (pr fg : Int32) (cnt : Nat → Int32) : Nat → Int32
  | 0 => 0
  | w + 1 => if zq_bit pr w = true then (if fg < cnt w then zq_F pr fg cnt w ||| 0 else zq_F pr fg cnt w ||| ((1 : Int32) <<< (nI w &&& 31))) else zq_F pr fg cnt w
/-- the number of typos of a word f of m symbols, as TypoSearch keeps it -/
def zq_C (n : Nat) (q : Nat → Nat) (f : Nat → Nat) (m : Nat) : Int32 := (zq_L (nI n) (zq_hv q n) f m).toInt8.toInt32
theorem zq_learn {post : St2 → Prop} {n : Nat} {q : Nat → Nat} {f : Nat → Nat → Nat} {m : Nat → Nat} (hn : n ≤ 6) (hq : ∀ i, i < n → q i < 4 ∧ a4 i = nI (q i))
    (hW : ∀ w, w < 10 → zq_bit pr w = true → m w ≤ 6 ∧ a1 w = nI (m w) ∧ ∀ k, k < m w → f w k < 4 ∧ a3 (w * 6 + k) = nI (f w k))
    (H : ∀ no on tw a5 a6, (∀ w, w < 10 → zq_bit pr w = true → a6 w = zq_C n q (f w) (m w)) →
      post (pr, nI n, no, on, tw, 1, zq_F pr (zq_fg n) (fun w => zq_C n q (f w) (m w)) 10, a1, a2, a3, a4, a5, a6)) :
    wpX_learn post (pr, nI n, no, on, tw, 0, fs, a1, a2, a3, a4, a5, a6) := by
  unfold wpX_learn
  dsimp only
  refine br_t rfl ?_
  exact pk_loop (fun g i (s : Int32 × Int32 × Int32 × Int32 × (Nat → Int32) × (Nat → Int32)) => wX_learn_20 post g (nI i) pr (nI n) s.1 s.2.1 s.2.2.1 1 s.2.2.2.1 a1 a2 a3 a4 s.2.2.2.2.1 s.2.2.2.2.2)
    (fun i s => s.2.2.2.1 = zq_F pr (zq_fg n) (fun w => zq_C n q (f w) (m w)) i ∧ ∀ w, w < i → zq_bit pr w = true → s.2.2.2.2.2 w = zq_C n q (f w) (m w)) 10 0 (no, on, tw, 0, a5, a6) (by omega)
    ⟨rfl, fun w hw => absurd hw (by omega)⟩
    (fun g s h => pk_le 10 10 (fun _ => by
      have t := H s.1 s.2.1 s.2.2.1 s.2.2.2.2.1 s.2.2.2.2.2 h.2
      rw [← h.1] at t
      exact t) (fun z => absurd z (by omega)))
    (fun g i s hi h hw => pk_le 10 i (fun z => absurd z (by omega)) (fun _ => zq_has hi
      (fun b => br_t rfl (nm_r (nI_1 i) (hw s ⟨by
        show s.2.2.2.1 = if zq_bit pr i = true then _ else _
        rw [if_neg (by rw [b]; decide)]
        exact h.1, fun w hw' bw => h.2 w (by
          rcases Nat.lt_or_ge w i with z | z
          · exact z
          · rw [show w = i by omega, b] at bw
            exact absurd bw (by decide)) bw⟩)))
      (fun b => br_f (by decide) (zq_ty hn (hW i hi b).1 hi hq (hW i hi b).2.1 (hW i hi b).2.2 (fun no' on' tw' a' => by
        refine ⟨pk_in i 10 hi, nm_r (e' := upd s.2.2.2.2.2 i (zq_C n q (f i) (m i))) (by rw [nI_clamp (show i < 2 ^ 31 by omega)]; rfl) ⟨pk_in i 10 hi, zq_fgv hn ?_⟩⟩
        rw [nI_clamp (show i < 2 ^ 31 by omega), pk_us]
        have h6 : ∀ w, w < i + 1 → zq_bit pr w = true → upd s.2.2.2.2.2 i (zq_C n q (f i) (m i)) w = zq_C n q (f w) (m w) := by
          intro w hw' bw
          by_cases e : w = i
          · rw [e, pk_us]
          · rw [pk_un e]; exact h.2 w (by omega) bw
        refine br_c (fun c => nm_e (nm_r (nI_1 i) ?_)) (fun c => nm_e (nm_r (nI_1 i) ?_))
        · refine hw (no', on', tw', s.2.2.2.1 ||| 0, a', upd s.2.2.2.2.2 i (zq_C n q (f i) (m i))) ⟨?_, h6⟩
          show s.2.2.2.1 ||| 0 = if zq_bit pr i = true then (if zq_fg n < zq_C n q (f i) (m i) then _ else _) else _
          rw [if_pos b, if_pos c, h.1]
        · refine hw (no', on', tw', s.2.2.2.1 ||| ((1 : Int32) <<< (nI i &&& 31)), a', upd s.2.2.2.2.2 i (zq_C n q (f i) (m i))) ⟨?_, h6⟩
          show s.2.2.2.1 ||| _ = if zq_bit pr i = true then (if zq_fg n < zq_C n q (f i) (m i) then _ else _) else _
          rw [if_pos b, if_neg c, h.1])))))
/-- learn, when it is known -/
theorem zq_kn {post : St2 → Prop} (h : post (pr, sz, no, on, tw, 1, fs, a1, a2, a3, a4, a5, a6)) : wpX_learn post (pr, sz, no, on, tw, 1, fs, a1, a2, a3, a4, a5, a6) := by
  unfold wpX_learn
  dsimp only
  exact br_f (by decide) h
end
end
section
/-! isQuery, goesBefore, place, at, foundCount, shared, common -/
section
variable {pr sz no on tw kn fs : Int32} {a1 a2 a3 a4 a5 a6 : Nat → Int32}
def zq_b2i (b : Bool) : Int32 := if b = true then 1 else 0
/-- the first n symbols alike, from k on, by fuel -/
def zq_eqr (f q : Nat → Nat) (n : Nat) : Nat → Nat → Bool
  | 0, _ => false
  | g + 1, k => if n ≤ k then true else if f k = q k then zq_eqr f q n g (k + 1) else false
def zq_iq (n : Nat) (q : Nat → Nat) (f : Nat → Nat) (m : Nat) : Bool := if m = n then zq_eqr f q n (n + 1) 0 else false
theorem zq_isq17 {post : Int32 → Prop} {n w : Nat} {q f : Nat → Nat} (hn : n ≤ 6) (hw : w < 10) (hq : ∀ i, i < n → q i < 4 ∧ a4 i = nI (q i))
    (hf : ∀ k, k < n → f k < 4 ∧ a3 (w * 6 + k) = nI (f k)) : ∀ g k, k ≤ n → n - k < g → post (zq_b2i (zq_eqr f q n g k)) →
    wX_isQuery_17 post (nI w) pr (nI n) no on tw kn fs a1 a2 a3 a4 a5 a6 g (nI k) := by
  intro g
  induction g with
  | zero => intro k _ h; exact absurd h (by omega)
  | succ g ih =>
    intro k hk hg h
    unfold zq_eqr at h
    refine pk_le n k (fun z => ?_) (fun z => ?_)
    · rw [if_pos z] at h; exact h
    · rw [if_neg (by omega)] at h
      have e6 : (nI w * 6) + nI k = nI (w * 6 + k) := by
        rw [show (6 : Int32) = nI 6 from rfl, pk_mul, nI_add]
      have l1 := (hf k z).1
      have l2 := (hq k z).1
      rw [e6, nI_clamp (show w * 6 + k < 2 ^ 31 by omega), nI_clamp (show k < 2 ^ 31 by omega), (hf k z).2, (hq k z).2]
      refine ⟨pk_in (w * 6 + k) 60 (by omega), pk_in k 6 (by omega), pk_eq (f k) (q k) (fun y => nm_r (nI_1 k) ?_) (fun y => ?_)⟩
      · rw [if_pos y] at h
        exact ih (k + 1) (by omega) (by omega) h
      · rw [if_neg y] at h; exact h
theorem zq_isq {post : Int32 → Prop} {n w m : Nat} {q f : Nat → Nat} (hn : n ≤ 6) (hm : m ≤ 6) (hw : w < 10) (hq : ∀ i, i < n → q i < 4 ∧ a4 i = nI (q i))
    (hl : a1 w = nI m) (hf : ∀ k, k < m → f k < 4 ∧ a3 (w * 6 + k) = nI (f k)) (h : post (zq_b2i (zq_iq n q f m))) :
    wpX_isQuery post (pr, nI n, no, on, tw, kn, fs, a1, a2, a3, a4, a5, a6) (nI w) := by
  unfold wpX_isQuery
  dsimp only
  unfold zq_iq at h
  rw [nI_clamp (show w < 2 ^ 31 by omega), hl]
  refine ⟨pk_in w 10 hw, pk_eq m n (fun z => ?_) (fun z => ?_)⟩
  · rw [if_pos z] at h
    exact ⟨n + 1, zq_isq17 hn hw hq (fun k hk => hf k (by omega)) (n + 1) 0 (by omega) (by omega) h⟩
  · rw [if_neg z] at h; exact h
/-- who goes before whom -/
def zq_gb (tc ln wt : Nat → Nat) (iq : Nat → Bool) (v w : Nat) : Bool :=
  if tc v = tc w then (if iq v = iq w then (if ln v = ln w then (if wt v = wt w then decide (v < w) else decide (wt w < wt v)) else decide (ln v < ln w)) else iq v) else decide (tc v < tc w)
/-- what TypoSearch knows of the word v: typos, length, weight, whether it is the query -/
def zq_K (u : St2) (tc ln wt : Nat → Nat) (iq : Nat → Bool) (v : Nat) : Prop :=
  match u with
  | (_, _, _, _, _, _, _, a1, a2, _, _, _, a6) => tc v < 128 ∧ ln v < 128 ∧ wt v < 128 ∧ a6 v = nI (tc v) ∧ a1 v = nI (ln v) ∧ a2 v = nI (wt v) ∧ ∀ ψ : Int32 → Prop, ψ (zq_b2i (iq v)) → wpX_isQuery ψ u (nI v)
theorem zq_b2i_eq {x y : Bool} (h : ¬ x = y) : ¬ zq_b2i x = zq_b2i y := by
  cases x <;> cases y <;> first | exact absurd rfl h | decide
theorem zq_b2i_nar (x : Bool) : narrow .boolean (.int (zq_b2i x)) = .int (zq_b2i x) := by
  cases x <;> rfl
theorem zq_gbv {post : Int32 → Prop} {tc ln wt : Nat → Nat} {iq : Nat → Bool} {v w : Nat} (hv : v < 10) (hw : w < 10)
    (kv : zq_K (pr, sz, no, on, tw, kn, fs, a1, a2, a3, a4, a5, a6) tc ln wt iq v) (kw : zq_K (pr, sz, no, on, tw, kn, fs, a1, a2, a3, a4, a5, a6) tc ln wt iq w)
    (h : post (zq_b2i (zq_gb tc ln wt iq v w))) :
    wpX_goesBefore post (pr, sz, no, on, tw, kn, fs, a1, a2, a3, a4, a5, a6) (nI v) (nI w) := by
  obtain ⟨v1, v2, v3, v4, v5, v6, v7⟩ := kv
  obtain ⟨w1, w2, w3, w4, w5, w6, w7⟩ := kw
  unfold wpX_goesBefore
  dsimp only
  unfold zq_gb at h
  rw [nI_clamp (show v < 2 ^ 31 by omega), nI_clamp (show w < 2 ^ 31 by omega), v4, w4, v5, w5, v6, w6]
  have iv : vp_in (nI v) 10 := pk_in v 10 hv
  have iw : vp_in (nI w) 10 := pk_in w 10 hw
  refine ⟨iv, iw, pk_eq (tc v) (tc w) (fun z => v7 _ (w7 _ ?_)) (fun z => ⟨iv, iw, ?_⟩)⟩
  · rw [if_pos z] at h
    by_cases e : iq v = iq w
    · rw [if_pos e] at h
      refine br_t (by rw [e]) ⟨iv, iw, pk_eq (ln v) (ln w) (fun y => ⟨iv, iw, pk_eq (wt v) (wt w) (fun x => ?_) (fun x => ⟨iv, iw, ?_⟩)⟩) (fun y => ⟨iv, iw, ?_⟩)⟩
      · rw [if_pos y, if_pos x] at h
        refine pk_le w v (fun t => ?_) (fun t => ?_)
        · rw [decide_eq_false (by omega)] at h; exact h
        · rw [decide_eq_true t] at h; exact h
      · rw [if_pos y, if_neg x] at h
        refine pk_le (wt v) (wt w) (fun t => ?_) (fun t => ?_)
        · rw [decide_eq_false (by omega)] at h; exact h
        · rw [decide_eq_true t] at h; exact h
      · rw [if_neg y] at h
        refine pk_le (ln w) (ln v) (fun t => ?_) (fun t => ?_)
        · rw [decide_eq_false (by omega)] at h; exact h
        · rw [decide_eq_true t] at h; exact h
    · rw [if_neg e] at h
      exact br_f (zq_b2i_eq e) ⟨zq_b2i_nar _, h⟩
  · rw [if_neg z] at h
    refine pk_le (tc w) (tc v) (fun t => ?_) (fun t => ?_)
    · rw [decide_eq_false (by omega)] at h; exact h
    · rw [decide_eq_true t] at h; exact h
/-- the place of a found word w: by fuel, the count n, the word v -/
def zq_pl (F : Nat) (gb : Nat → Nat → Bool) (w : Nat) : Nat → Nat → Nat → Nat
  | 0, n, _ => n
  | g + 1, n, v => if 10 ≤ v then n else if v = w then zq_pl F gb w g n (v + 1) else if F.testBit v = true then (if gb v w = true then zq_pl F gb w g (n + 1) (v + 1) else zq_pl F gb w g n (v + 1)) else zq_pl F gb w g n (v + 1)
def zq_place (F : Nat) (gb : Nat → Nat → Bool) (w : Nat) : Nat := zq_pl F gb w 11 0 0
theorem zq_pl28 {post : Int32 → St2 → Prop} {tc ln wt : Nat → Nat} {iq : Nat → Bool} {w F : Nat} (hw : w < 10) (hF : ∀ v, v < 10 → zq_bit fs v = F.testBit v)
    (hK : ∀ v, v < 10 → F.testBit v = true → zq_K (pr, sz, no, on, tw, kn, fs, a1, a2, a3, a4, a5, a6) tc ln wt iq v) (bw : F.testBit w = true) :
    ∀ g n v, v ≤ 10 → 10 - v < g → n ≤ v → post (nI (zq_pl F (zq_gb tc ln wt iq) w g n v)) (pr, sz, no, on, tw, kn, fs, a1, a2, a3, a4, a5, a6) →
    wX_place_28 post (nI w) pr sz no on tw kn fs a1 a2 a3 a4 a5 a6 g (nI n) (nI v) := by
  intro g
  induction g with
  | zero => intro n v _ h; exact absurd h (by omega)
  | succ g ih =>
    intro n v hv hg hn h
    unfold zq_pl at h
    refine pk_le 10 v (fun z => ?_) (fun z => ?_)
    · rw [if_pos z] at h; exact h
    · rw [if_neg (by omega)] at h
      refine pk_eq v w (fun y => ?_) (fun y => ?_)
      · rw [if_pos y] at h
        exact nm_r (Int32.add_zero _) (nm_r (nI_1 v) (ih n (v + 1) (by omega) (by omega) (by omega) h))
      · rw [if_neg y] at h
        refine zq_isf (fun b => br_t rfl ?_) (fun b => br_f (by decide) ?_)
        · rw [hF v z] at b
          rw [if_neg (by rw [b]; decide)] at h
          exact nm_r (Int32.add_zero _) (nm_r (nI_1 v) (ih n (v + 1) (by omega) (by omega) (by omega) h))
        · rw [hF v z] at b
          rw [if_pos b] at h
          refine zq_gbv z hw (hK v z b) (hK w hw bw) ?_
          cases e : zq_gb tc ln wt iq v w
          · rw [if_neg (by rw [e]; decide)] at h
            exact br_t rfl (nm_r (Int32.add_zero _) (nm_r (nI_1 v) (ih n (v + 1) (by omega) (by omega) (by omega) h)))
          · rw [if_pos e] at h
            exact br_f (by decide) (nm_r (nI_1 n) (nm_r (nI_1 v) (ih (n + 1) (v + 1) (by omega) (by omega) (by omega) h)))
theorem zq_plv {post : Int32 → St2 → Prop} {tc ln wt : Nat → Nat} {iq : Nat → Bool} {w F : Nat} (hw : w < 10) (hF : ∀ v, v < 10 → zq_bit fs v = F.testBit v)
    (hK : ∀ v, v < 10 → F.testBit v = true → zq_K (pr, sz, no, on, tw, 1, fs, a1, a2, a3, a4, a5, a6) tc ln wt iq v) (bp : zq_bit pr w = true) (bw : F.testBit w = true)
    (h : post (nI (zq_place F (zq_gb tc ln wt iq) w)) (pr, sz, no, on, tw, 1, fs, a1, a2, a3, a4, a5, a6)) :
    wpX_place post (pr, sz, no, on, tw, 1, fs, a1, a2, a3, a4, a5, a6) (nI w) := by
  unfold wpX_place
  dsimp only
  refine zq_has hw (fun b => absurd (b.symm.trans bp) (by decide)) (fun _ => br_f (by decide) (zq_kn ?_))
  refine zq_isf (fun b => absurd (b.symm.trans ((hF w hw).trans bw)) (by decide)) (fun _ => br_f (by decide) ?_)
  exact ⟨11, zq_pl28 hw hF hK bw 11 0 0 (by omega) (by omega) (by omega) h⟩
/-- the word at a place -/
def zq_atr (F : Nat) (pl : Nat → Nat) (k : Nat) : Nat → Nat → Option Nat
  | 0, _ => none
  | g + 1, w => if 10 ≤ w then none else if F.testBit w = true then (if pl w = k then some w else zq_atr F pl k g (w + 1)) else zq_atr F pl k g (w + 1)
def zq_at (F : Nat) (gb : Nat → Nat → Bool) (k : Nat) : Option Nat := zq_atr F (zq_place F gb) k 11 0
def zq_oi : Option Nat → Int32
  | none => -1
  | some w => nI w
theorem zq_pl_le (F : Nat) (gb : Nat → Nat → Bool) (w : Nat) : ∀ g n v, zq_pl F gb w g n v ≤ n + g := by
  intro g
  induction g with
  | zero => intro n v; exact Nat.le_refl _
  | succ g ih =>
    intro n v
    have i1 := ih n (v + 1)
    have i2 := ih (n + 1) (v + 1)
    unfold zq_pl
    split
    · omega
    · split
      · omega
      · split
        · split
          · omega
          · omega
        · omega
theorem zq_at6 {post : Int32 → St2 → Prop} {tc ln wt : Nat → Nat} {iq : Nat → Bool} {k F : Nat} (hk : k < 128) (hF : ∀ v, v < 10 → zq_bit fs v = F.testBit v)
    (hK : ∀ v, v < 10 → F.testBit v = true → zq_K (pr, sz, no, on, tw, 1, fs, a1, a2, a3, a4, a5, a6) tc ln wt iq v) (hp : ∀ v, v < 10 → F.testBit v = true → zq_bit pr v = true) :
    ∀ g w, w ≤ 10 → 10 - w < g → post (zq_oi (zq_atr F (zq_place F (zq_gb tc ln wt iq)) k g w)) (pr, sz, no, on, tw, 1, fs, a1, a2, a3, a4, a5, a6) →
    wX_at_6 post (nI k) g (nI w) pr sz no on tw 1 fs a1 a2 a3 a4 a5 a6 := by
  intro g
  induction g with
  | zero => intro w _ h; exact absurd h (by omega)
  | succ g ih =>
    intro w hw hg h
    unfold zq_atr at h
    refine pk_le 10 w (fun z => ?_) (fun z => ?_)
    · rw [if_pos z] at h; exact h
    · rw [if_neg (by omega)] at h
      refine zq_isf (fun b => br_t rfl ?_) (fun b => br_f (by decide) ?_)
      · rw [hF w z] at b
        rw [if_neg (by rw [b]; decide)] at h
        exact nm_r (nI_1 w) (ih (w + 1) (by omega) (by omega) h)
      · rw [hF w z] at b
        rw [if_pos b] at h
        have lp := zq_pl_le F (zq_gb tc ln wt iq) w 11 0 0
        refine zq_plv z hF hK (hp w z b) b (pk_eq (zq_place F (zq_gb tc ln wt iq) w) k (fun y => ?_) (fun y => ?_) (ha := by unfold zq_place; omega))
        · rw [if_pos y] at h; exact h
        · rw [if_neg y] at h
          exact nm_r (nI_1 w) (ih (w + 1) (by omega) (by omega) h)
theorem zq_atv {post : Int32 → St2 → Prop} {tc ln wt : Nat → Nat} {iq : Nat → Bool} {k F : Nat} (hk : k < 128) (hF : ∀ v, v < 10 → zq_bit fs v = F.testBit v)
    (hK : ∀ v, v < 10 → F.testBit v = true → zq_K (pr, sz, no, on, tw, 1, fs, a1, a2, a3, a4, a5, a6) tc ln wt iq v) (hp : ∀ v, v < 10 → F.testBit v = true → zq_bit pr v = true)
    (h : post (zq_oi (zq_at F (zq_gb tc ln wt iq) k)) (pr, sz, no, on, tw, 1, fs, a1, a2, a3, a4, a5, a6)) :
    wpX_at post (pr, sz, no, on, tw, 1, fs, a1, a2, a3, a4, a5, a6) (nI k) := by
  unfold wpX_at
  dsimp only
  exact zq_kn ⟨11, zq_at6 hk hF hK hp 11 0 (by omega) (by omega) h⟩
/-- how many are found -/
def zq_fcr (F : Nat) : Nat → Nat → Nat → Nat
  | 0, n, _ => n
  | g + 1, n, w => if 10 ≤ w then n else if F.testBit w = true then zq_fcr F g (n + 1) (w + 1) else zq_fcr F g n (w + 1)
theorem zq_fc8 {post : Int32 → St2 → Prop} {F : Nat} (hF : ∀ v, v < 10 → zq_bit fs v = F.testBit v) :
    ∀ g n w, w ≤ 10 → 10 - w < g → n ≤ w → post (nI (zq_fcr F g n w)) (pr, sz, no, on, tw, kn, fs, a1, a2, a3, a4, a5, a6) →
    wX_foundCount_8 post pr sz no on tw kn fs a1 a2 a3 a4 a5 a6 g (nI n) (nI w) := by
  intro g
  induction g with
  | zero => intro n w _ h; exact absurd h (by omega)
  | succ g ih =>
    intro n w hw hg hn h
    unfold zq_fcr at h
    refine pk_le 10 w (fun z => ?_) (fun z => ?_)
    · rw [if_pos z] at h; exact h
    · rw [if_neg (by omega)] at h
      refine zq_isf (fun b => br_t rfl ?_) (fun b => br_f (by decide) ?_)
      · rw [hF w z] at b
        rw [if_neg (by rw [b]; decide)] at h
        exact nm_r (Int32.add_zero _) (nm_r (nI_1 w) (ih n (w + 1) (by omega) (by omega) (by omega) h))
      · rw [hF w z] at b
        rw [if_pos b] at h
        exact nm_r (nI_1 n) (nm_r (nI_1 w) (ih (n + 1) (w + 1) (by omega) (by omega) (by omega) h))
/-- two words of at least two symbols, the first two alike -/
theorem zq_sh {post : Int32 → Prop} {v w : Nat} (hv : v < 10) (hw : w < 10) (hl : ∃ m, 2 ≤ m ∧ m ≤ 6 ∧ a1 w = nI m) (e0 : a3 (v * 6 + 0) = a3 (w * 6 + 0)) (e1 : a3 (v * 6 + 1) = a3 (w * 6 + 1)) (h : post 2) :
    wpX_shared post (pr, sz, no, on, tw, kn, fs, a1, a2, a3, a4, a5, a6) (nI v) (nI w) 2 := by
  obtain ⟨m, m2, m6, hm⟩ := hl
  unfold wpX_shared
  dsimp only
  have e6 : ∀ v k : Nat, (nI v * 6) + nI k = nI (v * 6 + k) := by
    intro v k
    rw [show (6 : Int32) = nI 6 from rfl, pk_mul, nI_add]
  have st : ∀ (g k : Nat), k < 2 → a3 (v * 6 + k) = a3 (w * 6 + k) → wX_shared_3 post (nI v) (nI w) 2 pr sz no on tw kn fs a1 a2 a3 a4 a5 a6 g (nI (k + 1)) → wX_shared_3 post (nI v) (nI w) 2 pr sz no on tw kn fs a1 a2 a3 a4 a5 a6 (g + 1) (nI k) := by
    intro g k hk e t
    refine pk_le 2 k (fun z => absurd z (by omega)) (fun _ => ⟨pk_in w 10 hw, ?_⟩)
    rw [nI_clamp (show w < 2 ^ 31 by omega), hm, e6, e6, nI_clamp (show v * 6 + k < 2 ^ 31 by omega), nI_clamp (show w * 6 + k < 2 ^ 31 by omega)]
    exact pk_le m k (fun z => absurd z (by omega)) (fun _ => ⟨pk_in (v * 6 + k) 60 (by omega), pk_in (w * 6 + k) 60 (by omega), br_t e (nm_r (nI_1 k) t)⟩)
  refine ⟨3, st 2 0 (by omega) e0 (st 1 1 (by omega) e1 ?_)⟩
  exact pk_le 2 2 (fun _ => h) (fun z => absurd z (by omega))
theorem zq_cm10 {post : Int32 → St2 → Prop} {F : Nat} (hF : ∀ v, v < 10 → zq_bit fs v = F.testBit v)
    (hs : ∀ w, 0 < w → w < 10 → F.testBit w = true → ∀ ψ : Int32 → Prop, ψ 2 → wpX_shared ψ (pr, sz, no, on, tw, kn, fs, a1, a2, a3, a4, a5, a6) (nI 0) (nI w) 2)
    (h : post 2 (pr, sz, no, on, tw, kn, fs, a1, a2, a3, a4, a5, a6)) :
    ∀ g w, 0 < w → w ≤ 10 → 10 - w < g → wX_common_10 post pr sz no on tw kn fs a1 a2 a3 a4 a5 a6 g (nI 0) 2 (nI w) := by
  intro g
  induction g with
  | zero => intro w _ _ h; exact absurd h (by omega)
  | succ g ih =>
    intro w h0 hw hg
    refine pk_le 10 w (fun _ => h) (fun z => ?_)
    have t : wX_common_40 post (wX_common_10 post pr sz no on tw kn fs a1 a2 a3 a4 a5 a6 g) (nI 0) 2 (nI w) pr sz no on tw kn fs a1 a2 a3 a4 a5 a6 := by
      unfold wX_common_40
      refine zq_isf (fun b => br_t rfl ?_) (fun b => br_f (by decide) ?_)
      · exact nm_r (nI_1 w) (ih (w + 1) (by omega) (by omega) (by omega))
      · rw [hF w z] at b
        exact hs w h0 z b _ (nm_r (nI_1 w) (ih (w + 1) (by omega) (by omega) (by omega)))
    exact zq_isf (fun b => br_t rfl t) (fun b => br_f (by decide) (br_t (by decide) t))
theorem zq_cm {post : Int32 → St2 → Prop} {F : Nat} (hF : ∀ v, v < 10 → zq_bit fs v = F.testBit v) (b0 : F.testBit 0 = true) (hl : a1 0 = 2)
    (hs : ∀ w, 0 < w → w < 10 → F.testBit w = true → ∀ ψ : Int32 → Prop, ψ 2 → wpX_shared ψ (pr, sz, no, on, tw, 1, fs, a1, a2, a3, a4, a5, a6) (nI 0) (nI w) 2)
    (h : post 2 (pr, sz, no, on, tw, 1, fs, a1, a2, a3, a4, a5, a6)) :
    wpX_common post (pr, sz, no, on, tw, 1, fs, a1, a2, a3, a4, a5, a6) := by
  unfold wpX_common
  dsimp only
  refine zq_kn ⟨11, ?_⟩
  refine pk_le 10 0 (fun z => absurd z (by omega)) (fun _ => ?_)
  refine zq_isf (w := 0) (fun b => absurd (b.symm.trans ((hF 0 (by omega)).trans b0)) (by decide)) (fun b => br_f (by decide) (br_f (by decide) ⟨pk_in 0 10 (by omega), nm_r (e' := 2) (by rw [sb_cl0]; exact hl) (nm_r (e' := nI 1) (nI_1 0) ?_)⟩))
  exact zq_cm10 hF hs h 10 1 (by omega) (by omega) (by omega)
end
end
section
/-! begin, extend, rub, remove, weigh, typos, found, type -/
section
variable {pr sz no on tw kn fs : Int32} {a1 a2 a3 a4 a5 a6 : Nat → Int32}
theorem zq_e6 (w k : Nat) : (nI w * 6) + nI k = nI (w * 6 + k) := by
  rw [show (6 : Int32) = nI 6 from rfl, pk_mul, nI_add]
theorem zq_e60 (w : Nat) : nI w * 6 = nI (w * 6) := by
  rw [show (6 : Int32) = nI 6 from rfl, pk_mul]
theorem zq_begin {post : Int32 → St2 → Prop} {j s p : Nat} {pr' : Int32} (hj : j < 10) (hb : ∀ w, w < j → zq_bit pr w = true) (hj' : zq_bit pr j = false)
    (hpr : pr ||| ((1 : Int32) <<< (nI j &&& 31)) = pr') (hs : s < 4) (hp : p ≤ 9)
    (h : post (nI j) (pr', sz, no, on, tw, 0, fs, upd a1 j (nI 1), upd a2 j (nI p), upd a3 (j * 6) (nI s), a4, a5, a6)) :
    wpX_begin post (pr, sz, no, on, tw, kn, fs, a1, a2, a3, a4, a5, a6) (nI s) (nI p) := by
  unfold wpX_begin
  dsimp only
  refine zq_sym hs (br_f (by decide) (br_f (nI_pos (by omega)) (pk_le p 9 (fun _ => ?_) (fun z => absurd z (by omega)))))
  have iw : vp_in (nI j) 10 := pk_in j 10 hj
  refine pk_loop (σ := Unit) (fun g i _ => wX_begin_21 post (nI s) (nI p) pr sz no on tw kn fs a1 a2 a3 a4 a5 a6 g (nI i)) (fun _ _ => True) j 0 () (by omega) trivial
    (fun g _ _ => pk_le 10 j (fun z => absurd z (by omega)) (fun _ => zq_has hj (fun b => br_t rfl (nm_r hpr ?_)) (fun b => absurd (hj'.symm.trans b) (by decide))))
    (fun g i _ hi _ hw => pk_le 10 i (fun z => absurd z (by omega)) (fun _ => zq_has (by omega) (fun b => absurd (b.symm.trans (hb i hi)) (by decide)) (fun b => br_f (by decide) (nm_r (nI_1 i) (hw () trivial)))))
  rw [zq_e60, nI_clamp (show j * 6 < 2 ^ 31 by omega), nI_clamp (show j < 2 ^ 31 by omega), zq_nb s (by omega), zq_nb p (by omega)]
  exact ⟨pk_in (j * 6) 60 (by omega), nm_e ⟨iw, nm_e ⟨iw, nm_e h⟩⟩⟩
theorem zq_ext {post : Int32 → St2 → Prop} {w m s : Nat} (hw : w < 10) (hb : zq_bit pr w = true) (hs : s < 4) (hl : a1 w = nI m) (hm : m < 6)
    (h : post 1 (pr, sz, no, on, tw, 0, fs, upd a1 w (nI (m + 1)), a2, upd a3 (w * 6 + m) (nI s), a4, a5, a6)) :
    wpX_extend post (pr, sz, no, on, tw, kn, fs, a1, a2, a3, a4, a5, a6) (nI w) (nI s) := by
  unfold wpX_extend
  dsimp only
  have iw : vp_in (nI w) 10 := pk_in w 10 hw
  refine zq_has hw (fun b => absurd (b.symm.trans hb) (by decide)) (fun _ => br_f (by decide) (zq_sym hs (br_f (by decide) ⟨iw, ?_⟩)))
  rw [nI_clamp (show w < 2 ^ 31 by omega), hl, zq_e6, nI_clamp (show w * 6 + m < 2 ^ 31 by omega), zq_nb s (by omega), nI_1, zq_nb (m + 1) (by omega)]
  exact pk_lt m 6 (fun _ => ⟨iw, pk_in (w * 6 + m) 60 (by omega), nm_e ⟨iw, iw, nm_e h⟩⟩) (fun z => absurd z (by omega))
theorem zq_rub {post : Int32 → St2 → Prop} {n : Nat} (hn : n < 6) (h : post (a4 n) (pr, nI n, no, on, tw, 0, fs, a1, a2, a3, a4, a5, a6)) :
    wpX_rub post (pr, nI (n + 1), no, on, tw, kn, fs, a1, a2, a3, a4, a5, a6) := by
  unfold wpX_rub
  dsimp only
  refine br_f (nI_ne0 (by omega) (by omega)) (nm_r (nI_pred n) ⟨pk_in n 6 hn, ?_⟩)
  rw [nI_clamp (show n < 2 ^ 31 by omega)]
  exact h
theorem zq_rem {post : Int32 → St2 → Prop} {w : Nat} {pr' : Int32} (hw : w < 10) (hb : zq_bit pr w = true) (hpr : pr &&& (((1 : Int32) <<< (nI w &&& 31)) ^^^ (-1)) = pr')
    (h : post 1 (pr', sz, no, on, tw, 0, fs, a1, a2, a3, a4, a5, a6)) :
    wpX_remove post (pr, sz, no, on, tw, kn, fs, a1, a2, a3, a4, a5, a6) (nI w) := by
  unfold wpX_remove
  dsimp only
  exact zq_has hw (fun b => absurd (b.symm.trans hb) (by decide)) (fun _ => br_f (by decide) (nm_r hpr h))
theorem zq_wgh {post : Int32 → St2 → Prop} {w p : Nat} (hw : w < 10) (hb : zq_bit pr w = true) (hp : p ≤ 9)
    (h : post 1 (pr, sz, no, on, tw, kn, fs, a1, upd a2 w (nI p), a3, a4, a5, a6)) :
    wpX_weigh post (pr, sz, no, on, tw, kn, fs, a1, a2, a3, a4, a5, a6) (nI w) (nI p) := by
  unfold wpX_weigh
  dsimp only
  refine zq_has hw (fun b => absurd (b.symm.trans hb) (by decide)) (fun _ => br_f (by decide) (br_f (nI_pos (by omega)) (pk_le p 9 (fun _ => ⟨pk_in w 10 hw, ?_⟩) (fun z => absurd z (by omega)))))
  rw [nI_clamp (show w < 2 ^ 31 by omega), zq_nb p (by omega)]
  exact nm_e h
theorem zq_tps {post : Int32 → St2 → Prop} {w : Nat} (hw : w < 10) (hb : zq_bit pr w = true) (h : post (a6 w) (pr, sz, no, on, tw, 1, fs, a1, a2, a3, a4, a5, a6)) :
    wpX_typos post (pr, sz, no, on, tw, 1, fs, a1, a2, a3, a4, a5, a6) (nI w) := by
  unfold wpX_typos
  dsimp only
  refine zq_has hw (fun b => absurd (b.symm.trans hb) (by decide)) (fun _ => br_f (by decide) (zq_kn ⟨pk_in w 10 hw, ?_⟩))
  rw [nI_clamp (show w < 2 ^ 31 by omega)]
  exact h
theorem zq_fndk {post : Int32 → St2 → Prop} (h : post fs (pr, sz, no, on, tw, 1, fs, a1, a2, a3, a4, a5, a6)) :
    wpX_found post (pr, sz, no, on, tw, 1, fs, a1, a2, a3, a4, a5, a6) := by
  unfold wpX_found
  dsimp only
  exact zq_kn h
/-- a place asked of a word that is not there -/
theorem zq_plno {post : Int32 → St2 → Prop} {w : Nat} (hw : w < 10) (hb : zq_bit pr w = false) (h : post (-1) (pr, sz, no, on, tw, kn, fs, a1, a2, a3, a4, a5, a6)) :
    wpX_place post (pr, sz, no, on, tw, kn, fs, a1, a2, a3, a4, a5, a6) (nI w) := by
  unfold wpX_place
  dsimp only
  exact zq_has hw (fun _ => br_t rfl h) (fun b => absurd (hb.symm.trans b) (by decide))
/-! the law's four words: ab, ab, abc, ba; its query: abc -/
def zq_wf (a b c : Nat) (w k : Nat) : Nat := if w = 3 then (if k = 0 then b else a) else if k = 0 then a else if k = 1 then b else c
def zq_wl (w : Nat) : Nat := if w = 2 then 3 else 2
def zq_ww (p q : Nat) (w : Nat) : Nat := if w = 0 then p else if w = 1 then q else if w = 2 then 9 else 0
def zq_qf (a b c : Nat) (k : Nat) : Nat := if k = 0 then a else if k = 1 then b else c
def zq_Wd (a b c : Nat) (a1 a3 : Nat → Int32) : Prop := ∀ w, w < 4 → a1 w = nI (zq_wl w) ∧ ∀ k, k < zq_wl w → a3 (w * 6 + k) = nI (zq_wf a b c w k)
def zq_Wt (wt : Nat → Nat) (a2 : Nat → Int32) : Prop := ∀ w, w < 4 → wt w < 128 ∧ a2 w = nI (wt w)
def zq_Qr (a b c n : Nat) (a4 : Nat → Int32) : Prop := ∀ i, i < n → a4 i = nI (zq_qf a b c i)
def zq_cn (a b c n w : Nat) : Int32 := zq_C n (zq_qf a b c) (zq_wf a b c w) (zq_wl w)
def zq_A6 (a b c n : Nat) (pr : Int32) (a6 : Nat → Int32) : Prop := ∀ w, w < 10 → zq_bit pr w = true → a6 w = zq_cn a b c n w
theorem zq_wf4 {a b c : Nat} (ha : a < 4) (hb : b < 4) (hc : c < 4) (w k : Nat) : zq_wf a b c w k < 4 := by
  unfold zq_wf
  split
  · split <;> assumption
  · split
    · assumption
    · split <;> assumption
theorem zq_qf4 {a b c : Nat} (ha : a < 4) (hb : b < 4) (hc : c < 4) (k : Nat) : zq_qf a b c k < 4 := by
  unfold zq_qf
  split
  · assumption
  · split <;> assumption
theorem zq_wl6 (w : Nat) : zq_wl w ≤ 6 := by
  unfold zq_wl
  split <;> omega
theorem zq_lw {post : St2 → Prop} {a b c n F : Nat} (ha : a < 4) (hb : b < 4) (hc : c < 4) (hn : n ≤ 6) (hpr : ∀ w, w < 10 → zq_bit pr w = true → w < 4)
    (hW : zq_Wd a b c a1 a3) (hQ : zq_Qr a b c n a4) (hF : zq_F pr (zq_fg n) (zq_cn a b c n) 10 = nI F)
    (H : ∀ no on tw a5 a6, zq_A6 a b c n pr a6 → post (pr, nI n, no, on, tw, 1, nI F, a1, a2, a3, a4, a5, a6)) :
    wpX_learn post (pr, nI n, no, on, tw, 0, fs, a1, a2, a3, a4, a5, a6) := by
  refine zq_learn (q := zq_qf a b c) (f := zq_wf a b c) (m := zq_wl) hn (fun i hi => ⟨zq_qf4 ha hb hc i, hQ i hi⟩)
    (fun w hw hbw => ⟨zq_wl6 w, (hW w (hpr w hw hbw)).1, fun k hk => ⟨zq_wf4 ha hb hc w k, (hW w (hpr w hw hbw)).2 k hk⟩⟩) (fun no on tw a5 a6 h6 => ?_)
  have t := H no on tw a5 a6 h6
  rw [← hF] at t
  exact t
theorem zq_fnd {post : Int32 → St2 → Prop} {a b c n F : Nat} (ha : a < 4) (hb : b < 4) (hc : c < 4) (hn : n ≤ 6) (hpr : ∀ w, w < 10 → zq_bit pr w = true → w < 4)
    (hW : zq_Wd a b c a1 a3) (hQ : zq_Qr a b c n a4) (hF : zq_F pr (zq_fg n) (zq_cn a b c n) 10 = nI F)
    (H : ∀ no on tw a5 a6, zq_A6 a b c n pr a6 → post (nI F) (pr, nI n, no, on, tw, 1, nI F, a1, a2, a3, a4, a5, a6)) :
    wpX_found post (pr, nI n, no, on, tw, 0, fs, a1, a2, a3, a4, a5, a6) := by
  unfold wpX_found
  dsimp only
  exact zq_lw ha hb hc hn hpr hW hQ hF H
theorem zq_typ {post : Int32 → St2 → Prop} {a b c n F N s : Nat} (ha : a < 4) (hb : b < 4) (hc : c < 4) (hn : n < 6) (hpr : ∀ w, w < 10 → zq_bit pr w = true → w < 4)
    (hW : zq_Wd a b c a1 a3) (hQ : zq_Qr a b c n a4) (hs : s = zq_qf a b c n) (hF : zq_F pr (zq_fg (n + 1)) (zq_cn a b c (n + 1)) 10 = nI F)
    (hB : ∀ v, v < 10 → zq_bit (nI F) v = F.testBit v) (hN : zq_fcr F 11 0 0 = N)
    (H : ∀ no on tw a4 a5 a6, zq_Qr a b c (n + 1) a4 → zq_A6 a b c (n + 1) pr a6 → post (nI N) (pr, nI (n + 1), no, on, tw, 1, nI F, a1, a2, a3, a4, a5, a6)) :
    wpX_type post (pr, nI n, no, on, tw, kn, fs, a1, a2, a3, a4, a5, a6) (nI s) := by
  have hs4 : s < 4 := by rw [hs]; exact zq_qf4 ha hb hc n
  unfold wpX_type
  dsimp only
  refine zq_sym hs4 (br_f (by decide) (pk_lt n 6 (fun _ => ⟨pk_in n 6 hn, ?_⟩) (fun z => absurd z (by omega))))
  rw [nI_clamp (show n < 2 ^ 31 by omega), zq_nb s (by omega)]
  refine nm_e (nm_r (nI_1 n) ?_)
  have hQ' : zq_Qr a b c (n + 1) (upd a4 n (nI s)) := by
    intro i hi
    by_cases e : i = n
    · rw [e, pk_us, hs]
    · rw [pk_un e]; exact hQ i (by omega)
  unfold wpX_foundCount
  dsimp only
  refine zq_lw ha hb hc (by omega) hpr hW hQ' hF (fun no on tw a5 a6 h6 => ⟨11, zq_fc8 hB 11 0 0 (by omega) (by omega) (by omega) ?_⟩)
  rw [hN]
  exact H no on tw _ a5 a6 hQ' h6
end
end
section
/-! what the four words answer, by evaluation -/
def zq_FF (a b n : Nat) : Nat := if n = 0 then 15 else if a = b then 15 else 7
def zq_tc (n v : Nat) : Nat := if n = 3 then (if v = 2 then 0 else 1) else 0
def zq_iqt (n v : Nat) : Bool := if n = 3 then decide (v = 2) else if n = 2 then decide (v ≠ 2) else false
theorem zq_t15 : ∀ a, a < 4 → ∀ b, b < 4 → ∀ c, c < 4 → ∀ n, n < 4 → zq_F 15 (zq_fg n) (zq_cn a b c n) 10 = nI (zq_FF a b n) := by decide +kernel
theorem zq_t11 : ∀ a, a < 4 → ∀ b, b < 4 → ∀ c, c < 4 → zq_F 11 (zq_fg 2) (zq_cn a b c 2) 10 = nI (if a = b then 11 else 3) := by decide +kernel
theorem zq_tct0 : ∀ a, a < 4 → ∀ b, b < 4 → ∀ c, c < 4 → ∀ v, v < 4 → (!(zq_FF a b 0).testBit v || (decide (zq_cn a b c 0 v = nI (zq_tc 0 v)) && decide (zq_iq 0 (zq_qf a b c) (zq_wf a b c v) (zq_wl v) = zq_iqt 0 v))) = true := by decide +kernel
theorem zq_tct2 : ∀ a, a < 4 → ∀ b, b < 4 → ∀ c, c < 4 → ∀ v, v < 4 → (!(zq_FF a b 2).testBit v || (decide (zq_cn a b c 2 v = nI (zq_tc 2 v)) && decide (zq_iq 2 (zq_qf a b c) (zq_wf a b c v) (zq_wl v) = zq_iqt 2 v))) = true := by decide +kernel
theorem zq_tct3 : ∀ a, a < 4 → ∀ b, b < 4 → ∀ c, c < 4 → ∀ v, v < 4 → (!(zq_FF a b 3).testBit v || (decide (zq_cn a b c 3 v = nI (zq_tc 3 v)) && decide (zq_iq 3 (zq_qf a b c) (zq_wf a b c v) (zq_wl v) = zq_iqt 3 v))) = true := by decide +kernel
theorem zq_tbo {x y z : Bool} (h : (!x || (y && z)) = true) (hx : x = true) : y = true ∧ z = true := by
  subst hx
  cases y <;> cases z <;> first | exact ⟨rfl, rfl⟩ | exact absurd h (by decide)
theorem zq_tctiq {a b c n v : Nat} (ha : a < 4) (hb : b < 4) (hc : c < 4) (hn : n < 4) (hn1 : n ≠ 1) (hv : v < 4) (hF : (zq_FF a b n).testBit v = true) :
    zq_cn a b c n v = nI (zq_tc n v) ∧ zq_iq n (zq_qf a b c) (zq_wf a b c v) (zq_wl v) = zq_iqt n v := by
  rcases (show n = 0 ∨ n = 2 ∨ n = 3 by omega) with rfl | rfl | rfl
  · have t := zq_tbo (zq_tct0 a ha b hb c hc v hv) hF
    exact ⟨of_decide_eq_true t.1, of_decide_eq_true t.2⟩
  · have t := zq_tbo (zq_tct2 a ha b hb c hc v hv) hF
    exact ⟨of_decide_eq_true t.1, of_decide_eq_true t.2⟩
  · have t := zq_tbo (zq_tct3 a ha b hb c hc v hv) hF
    exact ⟨of_decide_eq_true t.1, of_decide_eq_true t.2⟩
theorem zq_b15 : ∀ v, v < 10 → zq_bit (nI 15) v = (15 : Nat).testBit v := by decide +kernel
theorem zq_b7 : ∀ v, v < 10 → zq_bit (nI 7) v = (7 : Nat).testBit v := by decide +kernel
theorem zq_b11 : ∀ v, v < 10 → zq_bit (nI 11) v = (11 : Nat).testBit v := by decide +kernel
theorem zq_b3 : ∀ v, v < 10 → zq_bit (nI 3) v = (3 : Nat).testBit v := by decide +kernel
def zq_bs (p q : Nat) : Nat := if p < q then 1 else 0
def zq_g (n p q : Nat) : Nat → Nat → Bool := zq_gb (zq_tc n) zq_wl (zq_ww p q) (zq_iqt n)
/-- the weights behind the law's 'weigh' -/
def zq_w9 (p q w : Nat) : Nat := if w = 1 - zq_bs p q then 9 else zq_ww p q w
theorem zq_r0 : ∀ p, p < 8 → ∀ q, q < 8 → zq_at 15 (zq_g 0 p q) 0 = some (zq_bs p q) := by decide +kernel
theorem zq_r2s : ∀ p, p < 8 → ∀ q, q < 8 → zq_at 15 (zq_g 2 p q) 0 = some (zq_bs p q) ∧ zq_at 15 (zq_g 2 p q) 1 = some (1 - zq_bs p q) ∧ zq_at 15 (zq_g 2 p q) 2 = some 3 ∧ zq_at 15 (zq_g 2 p q) 3 = some 2 ∧ zq_place 15 (zq_g 2 p q) 2 = 3 := by decide +kernel
theorem zq_r2d : ∀ p, p < 8 → ∀ q, q < 8 → zq_at 7 (zq_g 2 p q) 0 = some (zq_bs p q) ∧ zq_at 7 (zq_g 2 p q) 1 = some (1 - zq_bs p q) ∧ zq_at 7 (zq_g 2 p q) 2 = some 2 ∧ zq_at 7 (zq_g 2 p q) 3 = none ∧ zq_place 7 (zq_g 2 p q) 2 = 2 := by decide +kernel
theorem zq_r3s : ∀ p, p < 8 → ∀ q, q < 8 → zq_at 15 (zq_g 3 p q) 0 = some 2 ∧ zq_at 15 (zq_g 3 p q) 1 = some (zq_bs p q) ∧ zq_at 15 (zq_g 3 p q) 2 = some (1 - zq_bs p q) := by decide +kernel
theorem zq_r3d : ∀ p, p < 8 → ∀ q, q < 8 → zq_at 7 (zq_g 3 p q) 0 = some 2 ∧ zq_at 7 (zq_g 3 p q) 1 = some (zq_bs p q) ∧ zq_at 7 (zq_g 3 p q) 2 = some (1 - zq_bs p q) := by decide +kernel
theorem zq_r4 : ∀ p, p < 8 → ∀ q, q < 8 → zq_at 11 (zq_gb (zq_tc 2) zq_wl (zq_w9 p q) (zq_iqt 2)) 0 = some (1 - zq_bs p q) ∧ zq_at 3 (zq_gb (zq_tc 2) zq_wl (zq_w9 p q) (zq_iqt 2)) 0 = some (1 - zq_bs p q) := by decide +kernel
end
section
/-! the law, stage by stage -/
section
variable {pr sz no on tw kn fs : Int32} {a1 a2 a3 a4 a5 a6 : Nat → Int32}
/-- words, weights, query and typos as the pictures have them -/
def zq_G (a b c n : Nat) (wt : Nat → Nat) (pr : Int32) (a1 a2 a3 a4 a6 : Nat → Int32) : Prop :=
  a < 4 ∧ b < 4 ∧ c < 4 ∧ zq_Wd a b c a1 a3 ∧ zq_Wt wt a2 ∧ zq_Qr a b c n a4 ∧ zq_A6 a b c n pr a6
/-- the table of the found words F -/
def zq_Tb (a b c n F : Nat) (pr : Int32) (tc : Nat → Nat) (iq : Nat → Bool) : Prop :=
  (∀ v, v < 10 → zq_bit (nI F) v = F.testBit v) ∧ ∀ v, v < 10 → F.testBit v = true → v < 4 ∧ zq_bit pr v = true ∧ tc v < 128 ∧ zq_cn a b c n v = nI (tc v) ∧ zq_iq n (zq_qf a b c) (zq_wf a b c v) (zq_wl v) = iq v
theorem zq_Kof {a b c n F : Nat} {tc wt : Nat → Nat} {iq : Nat → Bool} (hn : n ≤ 6) (hG : zq_G a b c n wt pr a1 a2 a3 a4 a6) (hT : zq_Tb a b c n F pr tc iq) :
    ∀ v, v < 10 → F.testBit v = true → zq_K (pr, nI n, no, on, tw, kn, fs, a1, a2, a3, a4, a5, a6) tc zq_wl wt iq v := by
  intro v hv bv
  obtain ⟨ha, hb, hc, hW, hT2, hQ, h6⟩ := hG
  obtain ⟨v4, vp, vt, vc, vi⟩ := hT.2 v hv bv
  unfold zq_K
  dsimp only
  refine ⟨vt, by have := zq_wl6 v; omega, (hT2 v v4).1, (h6 v hv vp).trans vc, (hW v v4).1, (hT2 v v4).2, fun ψ hψ => ?_⟩
  refine zq_isq hn (zq_wl6 v) hv (fun i hi => ⟨zq_qf4 ha hb hc i, hQ i hi⟩) (hW v v4).1 (fun k hk => ⟨zq_wf4 ha hb hc v k, (hW v v4).2 k hk⟩) ?_
  rw [vi]
  exact hψ
theorem zq_atL {post : Int32 → St2 → Prop} {a b c n F k : Nat} {tc wt : Nat → Nat} {iq : Nat → Bool} {r : Option Nat} (hn : n ≤ 6) (hG : zq_G a b c n wt pr a1 a2 a3 a4 a6) (hT : zq_Tb a b c n F pr tc iq) (hk : k < 128)
    (hr : zq_at F (zq_gb tc zq_wl wt iq) k = r) (h : post (zq_oi r) (pr, nI n, no, on, tw, 1, nI F, a1, a2, a3, a4, a5, a6)) :
    wpX_at post (pr, nI n, no, on, tw, 1, nI F, a1, a2, a3, a4, a5, a6) (nI k) := by
  rw [← hr] at h
  exact zq_atv hk hT.1 (zq_Kof hn hG hT) (fun v hv bv => (hT.2 v hv bv).2.1) h
theorem zq_plL {post : Int32 → St2 → Prop} {a b c n F w r : Nat} {tc wt : Nat → Nat} {iq : Nat → Bool} (hn : n ≤ 6) (hG : zq_G a b c n wt pr a1 a2 a3 a4 a6) (hT : zq_Tb a b c n F pr tc iq) (hw : w < 10) (bw : F.testBit w = true)
    (hr : zq_place F (zq_gb tc zq_wl wt iq) w = r) (h : post (nI r) (pr, nI n, no, on, tw, 1, nI F, a1, a2, a3, a4, a5, a6)) :
    wpX_place post (pr, nI n, no, on, tw, 1, nI F, a1, a2, a3, a4, a5, a6) (nI w) := by
  rw [← hr] at h
  exact zq_plv hw hT.1 (zq_Kof hn hG hT) (hT.2 w hw bw).2.1 bw h
theorem zq_tpL {post : Int32 → St2 → Prop} {a b c n F w : Nat} {tc wt : Nat → Nat} {iq : Nat → Bool} {r : Int32} (hG : zq_G a b c n wt pr a1 a2 a3 a4 a6) (hT : zq_Tb a b c n F pr tc iq) (hw : w < 10) (bw : F.testBit w = true)
    (hr : nI (tc w) = r) (h : post r (pr, nI n, no, on, tw, 1, nI F, a1, a2, a3, a4, a5, a6)) :
    wpX_typos post (pr, nI n, no, on, tw, 1, nI F, a1, a2, a3, a4, a5, a6) (nI w) := by
  obtain ⟨ha, hb, hc, hW, hT2, hQ, h6⟩ := hG
  obtain ⟨v4, vp, vt, vc, vi⟩ := hT.2 w hw bw
  refine zq_tps hw vp ?_
  rw [h6 w hw vp, vc, hr]
  exact h
theorem zq_cmL {post : Int32 → St2 → Prop} {a b c n F : Nat} {tc wt : Nat → Nat} {iq : Nat → Bool} (hG : zq_G a b c n wt pr a1 a2 a3 a4 a6) (hT : zq_Tb a b c n F pr tc iq) (b0 : F.testBit 0 = true) (b3 : F.testBit 3 = true → a = b)
    (h : post 2 (pr, nI n, no, on, tw, 1, nI F, a1, a2, a3, a4, a5, a6)) :
    wpX_common post (pr, nI n, no, on, tw, 1, nI F, a1, a2, a3, a4, a5, a6) := by
  obtain ⟨ha, hb, hc, hW, hT2, hQ, h6⟩ := hG
  refine zq_cm hT.1 b0 (hW 0 (by omega)).1 (fun w w0 hw bw ψ hψ => ?_) h
  have v4 := (hT.2 w hw bw).1
  have e0 := (hW 0 (by omega)).2 0 (by decide)
  have e1 := (hW 0 (by omega)).2 1 (by decide)
  have l2 : 2 ≤ zq_wl w := by unfold zq_wl; split <;> omega
  have f0 := (hW w v4).2 0 (by omega)
  have f1 := (hW w v4).2 1 (by omega)
  have g : zq_wf a b c w 0 = a ∧ zq_wf a b c w 1 = b := by
    by_cases e : w = 3
    · have hab := b3 (by rw [← e]; exact bw)
      rw [e, hab]
      exact ⟨rfl, rfl⟩
    · unfold zq_wf
      rw [if_neg e, if_neg e]
      exact ⟨rfl, rfl⟩
  refine zq_sh (by omega) hw ⟨zq_wl w, l2, zq_wl6 w, (hW w v4).1⟩ ?_ ?_ hψ
  · rw [f0, g.1]; exact e0
  · rw [f1, g.2]; exact e1
/-! the law's checks, the answers taken as given -/
theorem zq_s389 {post : Int32 → St0 → Prop} {mc ms kc ks : Nat} {x7 x14 x15 x17 z : Int32}
    (h0 : ∀ ψ : Int32 → St2 → Prop, ψ 2 (pr, sz, no, on, tw, kn, fs, a1, a2, a3, a4, a5, a6) → wpX_at ψ (pr, sz, no, on, tw, kn, fs, a1, a2, a3, a4, a5, a6) 0)
    (h1 : ∀ ψ : Int32 → St2 → Prop, ψ x14 (pr, sz, no, on, tw, kn, fs, a1, a2, a3, a4, a5, a6) → wpX_at ψ (pr, sz, no, on, tw, kn, fs, a1, a2, a3, a4, a5, a6) 1)
    (h2 : ∀ ψ : Int32 → St2 → Prop, ψ x15 (pr, sz, no, on, tw, kn, fs, a1, a2, a3, a4, a5, a6) → wpX_at ψ (pr, sz, no, on, tw, kn, fs, a1, a2, a3, a4, a5, a6) 2)
    (t0 : ∀ ψ : Int32 → St2 → Prop, ψ 1 (pr, sz, no, on, tw, kn, fs, a1, a2, a3, a4, a5, a6) → wpX_typos ψ (pr, sz, no, on, tw, kn, fs, a1, a2, a3, a4, a5, a6) 0)
    (t2 : ∀ ψ : Int32 → St2 → Prop, ψ 0 (pr, sz, no, on, tw, kn, fs, a1, a2, a3, a4, a5, a6) → wpX_typos ψ (pr, sz, no, on, tw, kn, fs, a1, a2, a3, a4, a5, a6) 2)
    (hc : ∀ ψ : Int32 → St2 → Prop, ψ 2 (pr, sz, no, on, tw, kn, fs, a1, a2, a3, a4, a5, a6) → wpX_common ψ (pr, sz, no, on, tw, kn, fs, a1, a2, a3, a4, a5, a6))
    (H : wL_lawOf_457 post mc ms x7 x15 x17 1 kc ks pr sz no on tw kn fs a1 a2 a3 a4 a5 a6) :
    wL_lawOf_389 post mc ms x7 x14 x15 x17 z z kc ks pr sz no on tw kn fs a1 a2 a3 a4 a5 a6 := by
  unfold wL_lawOf_389
  exact br_t rfl (h0 _ (br_t rfl (h1 _ (br_t rfl (h2 _ (br_t rfl (t0 _ (br_t rfl (t2 _ (br_t rfl (hc _ (br_t rfl H))))))))))))
theorem zq_s252 {post : Int32 → St0 → Prop} {mc ms kc ks : Nat} {x7 x11 x14 x15 x17 s2 s3 : Int32} (hx : (x11 = 1 ∧ s2 = 3 ∧ s3 = 2) ∨ (x11 = 0 ∧ s2 = 2 ∧ s3 = -1))
    (h0 : ∀ ψ : Int32 → St2 → Prop, ψ x14 (pr, sz, no, on, tw, kn, fs, a1, a2, a3, a4, a5, a6) → wpX_at ψ (pr, sz, no, on, tw, kn, fs, a1, a2, a3, a4, a5, a6) 0)
    (h1 : ∀ ψ : Int32 → St2 → Prop, ψ x15 (pr, sz, no, on, tw, kn, fs, a1, a2, a3, a4, a5, a6) → wpX_at ψ (pr, sz, no, on, tw, kn, fs, a1, a2, a3, a4, a5, a6) 1)
    (h2 : ∀ ψ : Int32 → St2 → Prop, ψ s2 (pr, sz, no, on, tw, kn, fs, a1, a2, a3, a4, a5, a6) → wpX_at ψ (pr, sz, no, on, tw, kn, fs, a1, a2, a3, a4, a5, a6) 2)
    (h3 : ∀ ψ : Int32 → St2 → Prop, ψ s3 (pr, sz, no, on, tw, kn, fs, a1, a2, a3, a4, a5, a6) → wpX_at ψ (pr, sz, no, on, tw, kn, fs, a1, a2, a3, a4, a5, a6) 3)
    (hc : ∀ ψ : Int32 → St2 → Prop, ψ 2 (pr, sz, no, on, tw, kn, fs, a1, a2, a3, a4, a5, a6) → wpX_common ψ (pr, sz, no, on, tw, kn, fs, a1, a2, a3, a4, a5, a6))
    (t2 : ∀ ψ : Int32 → St2 → Prop, ψ 0 (pr, sz, no, on, tw, kn, fs, a1, a2, a3, a4, a5, a6) → wpX_typos ψ (pr, sz, no, on, tw, kn, fs, a1, a2, a3, a4, a5, a6) 2)
    (hp : ∀ ψ : Int32 → St2 → Prop, ψ s2 (pr, sz, no, on, tw, kn, fs, a1, a2, a3, a4, a5, a6) → wpX_place ψ (pr, sz, no, on, tw, kn, fs, a1, a2, a3, a4, a5, a6) 2)
    (H : wL_lawOf_361 post mc ms x7 x11 x14 x15 x17 1 kc ks pr sz no on tw kn fs a1 a2 a3 a4 a5 a6) :
    wL_lawOf_252 post mc ms x7 x11 x14 x15 x17 1 kc ks pr sz no on tw kn fs a1 a2 a3 a4 a5 a6 := by
  unfold wL_lawOf_252
  refine br_f (by decide) (h0 _ (br_t rfl (h1 _ (br_t rfl (h2 _ ?_)))))
  rcases hx with ⟨rfl, rfl, rfl⟩ | ⟨rfl, rfl, rfl⟩
  · refine br_f (by decide) ?_
    unfold wL_lawOf_297
    refine br_t rfl (h3 _ (br_f (by decide) ?_))
    unfold wL_lawOf_316
    refine br_t rfl (hc _ (br_t rfl (t2 _ (br_t rfl (hp _ (br_f (by decide) ?_))))))
    unfold wL_lawOf_353
    exact br_t rfl H
  · refine br_t rfl ?_
    unfold wL_lawOf_297
    refine br_t rfl (h3 _ (br_t rfl ?_))
    unfold wL_lawOf_316
    refine br_t rfl (hc _ (br_t rfl (t2 _ (br_t rfl (hp _ (br_t rfl ?_))))))
    unfold wL_lawOf_353
    exact br_t rfl H
/-! the two cases: a = b or not -/
def zq_Cs (a b F F4 N : Nat) (x11 s2 s3 : Int32) : Prop :=
  (a = b ∧ F = 15 ∧ F4 = 11 ∧ N = 4 ∧ x11 = 1 ∧ s2 = 3 ∧ s3 = 2) ∨ (a ≠ b ∧ F = 7 ∧ F4 = 3 ∧ N = 3 ∧ x11 = 0 ∧ s2 = 2 ∧ s3 = -1)
theorem zq_l4 : ∀ v, v < 10 → (15 : Nat).testBit v = true → v < 4 := by decide +kernel
theorem zq_l3 : ∀ v, v < 10 → (7 : Nat).testBit v = true → v < 4 := by decide +kernel
theorem zq_p15 : ∀ v, v < 4 → zq_bit 15 v = true := by decide +kernel
theorem zq_q15 : ∀ v, v < 10 → zq_bit 15 v = true → v < 4 := by decide +kernel
theorem zq_q11 : ∀ v, v < 10 → zq_bit 11 v = true → v < 4 := by decide +kernel
theorem zq_p11 : ∀ v, v < 10 → (11 : Nat).testBit v = true → v < 4 ∧ zq_bit 11 v = true ∧ (15 : Nat).testBit v = true := by decide +kernel
theorem zq_p3 : ∀ v, v < 10 → (3 : Nat).testBit v = true → v < 4 ∧ zq_bit 11 v = true ∧ (7 : Nat).testBit v = true := by decide +kernel
theorem zq_tc128 (n v : Nat) : zq_tc n v < 128 := by
  unfold zq_tc
  split
  · split <;> omega
  · omega
theorem zq_FFc {a b F F4 N n : Nat} {x11 s2 s3 : Int32} (h : zq_Cs a b F F4 N x11 s2 s3) (hn : n ≠ 0) : zq_FF a b n = F := by
  unfold zq_FF
  rw [if_neg hn]
  rcases h with ⟨e, f, _⟩ | ⟨e, f, _⟩
  · rw [if_pos e, f]
  · rw [if_neg e, f]
theorem zq_hF {a b c F F4 N n : Nat} {x11 s2 s3 : Int32} (ha : a < 4) (hb : b < 4) (hc : c < 4) (h : zq_Cs a b F F4 N x11 s2 s3) (hn : n ≠ 0) (hn4 : n < 4) : zq_F 15 (zq_fg n) (zq_cn a b c n) 10 = nI F := by
  rw [zq_t15 a ha b hb c hc n hn4, zq_FFc h hn]
theorem zq_hB {a b F F4 N : Nat} {x11 s2 s3 : Int32} (h : zq_Cs a b F F4 N x11 s2 s3) : ∀ v, v < 10 → zq_bit (nI F) v = F.testBit v := by
  rcases h with ⟨e, rfl, _⟩ | ⟨e, rfl, _⟩
  · exact zq_b15
  · exact zq_b7
theorem zq_hN {a b F F4 N : Nat} {x11 s2 s3 : Int32} (h : zq_Cs a b F F4 N x11 s2 s3) : zq_fcr F 11 0 0 = N := by
  rcases h with ⟨e, rfl, _, rfl, _⟩ | ⟨e, rfl, _, rfl, _⟩ <;> rfl
theorem zq_hT {a b c F F4 N n : Nat} {x11 s2 s3 : Int32} (ha : a < 4) (hb : b < 4) (hc : c < 4) (h : zq_Cs a b F F4 N x11 s2 s3) (hn : n ≠ 0) (hn1 : n ≠ 1) (hn4 : n < 4) : zq_Tb a b c n F 15 (zq_tc n) (zq_iqt n) := by
  refine ⟨zq_hB h, fun v hv bv => ?_⟩
  have v4 : v < 4 := by
    rcases h with ⟨e, rfl, _⟩ | ⟨e, rfl, _⟩
    · exact zq_l4 v hv bv
    · exact zq_l3 v hv bv
  rw [← zq_FFc h hn] at bv
  exact ⟨v4, zq_p15 v v4, zq_tc128 n v, zq_tctiq ha hb hc hn4 hn1 v4 bv⟩
theorem zq_hT0 {a b c : Nat} (ha : a < 4) (hb : b < 4) (hc : c < 4) : zq_Tb a b c 0 15 15 (zq_tc 0) (zq_iqt 0) :=
  ⟨zq_b15, fun v hv bv => ⟨zq_l4 v hv bv, zq_p15 v (zq_l4 v hv bv), zq_tc128 0 v, zq_tctiq ha hb hc (by omega) (by omega) (zq_l4 v hv bv) bv⟩⟩
theorem zq_hT4 {a b c F F4 N : Nat} {x11 s2 s3 : Int32} (ha : a < 4) (hb : b < 4) (hc : c < 4) (h : zq_Cs a b F F4 N x11 s2 s3) : zq_Tb a b c 2 F4 11 (zq_tc 2) (zq_iqt 2) := by
  have hFF : zq_FF a b 2 = F := zq_FFc h (by omega)
  rcases h with ⟨e, rfl, rfl, _⟩ | ⟨e, rfl, rfl, _⟩
  · refine ⟨zq_b11, fun v hv bv => ?_⟩
    obtain ⟨v4, vp, vf⟩ := zq_p11 v hv bv
    rw [← hFF] at vf
    exact ⟨v4, vp, zq_tc128 2 v, zq_tctiq ha hb hc (by omega) (by omega) v4 vf⟩
  · refine ⟨zq_b3, fun v hv bv => ?_⟩
    obtain ⟨v4, vp, vf⟩ := zq_p3 v hv bv
    rw [← hFF] at vf
    exact ⟨v4, vp, zq_tc128 2 v, zq_tctiq ha hb hc (by omega) (by omega) v4 vf⟩
theorem zq_hF4 {a b c F F4 N : Nat} {x11 s2 s3 : Int32} (ha : a < 4) (hb : b < 4) (hc : c < 4) (h : zq_Cs a b F F4 N x11 s2 s3) : zq_F 11 (zq_fg 2) (zq_cn a b c 2) 10 = nI F4 := by
  rw [zq_t11 a ha b hb c hc]
  rcases h with ⟨e, _, rfl, _⟩ | ⟨e, _, rfl, _⟩
  · rw [if_pos e]
  · rw [if_neg e]
theorem zq_hFm {a b F F4 N : Nat} {x11 s2 s3 : Int32} (h : zq_Cs a b F F4 N x11 s2 s3) : nI F4 = nI F &&& (-5) := by
  rcases h with ⟨_, rfl, rfl, _⟩ | ⟨_, rfl, rfl, _⟩ <;> decide
theorem zq_hb {a b F F4 N : Nat} {x11 s2 s3 : Int32} (h : zq_Cs a b F F4 N x11 s2 s3) : F.testBit 0 = true ∧ F.testBit 2 = true ∧ (F.testBit 3 = true → a = b) := by
  rcases h with ⟨e, rfl, _⟩ | ⟨e, rfl, _⟩
  · exact ⟨by decide, by decide, fun _ => e⟩
  · exact ⟨by decide, by decide, fun z => absurd z (by decide)⟩
theorem zq_h4 {a b F F4 N p q : Nat} {x11 s2 s3 : Int32} (hp : p < 8) (hq : q < 8) (h : zq_Cs a b F F4 N x11 s2 s3) : zq_at F4 (zq_gb (zq_tc 2) zq_wl (zq_w9 p q) (zq_iqt 2)) 0 = some (1 - zq_bs p q) := by
  rcases h with ⟨_, rfl, rfl, _⟩ | ⟨_, rfl, rfl, _⟩
  · exact (zq_r4 p hp q hq).1
  · exact (zq_r4 p hp q hq).2
theorem zq_h3 {a b F F4 N p q : Nat} {x11 s2 s3 : Int32} (hp : p < 8) (hq : q < 8) (h : zq_Cs a b F F4 N x11 s2 s3) :
    zq_at F (zq_g 3 p q) 0 = some 2 ∧ zq_at F (zq_g 3 p q) 1 = some (zq_bs p q) ∧ zq_at F (zq_g 3 p q) 2 = some (1 - zq_bs p q) := by
  rcases h with ⟨_, rfl, _⟩ | ⟨_, rfl, _⟩
  · exact zq_r3s p hp q hq
  · exact zq_r3d p hp q hq
theorem zq_h2 {a b F F4 N p q : Nat} {x11 s2 s3 : Int32} (hp : p < 8) (hq : q < 8) (h : zq_Cs a b F F4 N x11 s2 s3) :
    zq_at F (zq_g 2 p q) 0 = some (zq_bs p q) ∧ zq_at F (zq_g 2 p q) 1 = some (1 - zq_bs p q) ∧ zq_oi (zq_at F (zq_g 2 p q) 2) = s2 ∧ zq_oi (zq_at F (zq_g 2 p q) 3) = s3 ∧ nI (zq_place F (zq_g 2 p q) 2) = s2 := by
  rcases h with ⟨_, rfl, _, _, _, rfl, rfl⟩ | ⟨_, rfl, _, _, _, rfl, rfl⟩
  · obtain ⟨r0, r1, r2, r3, r4⟩ := zq_r2s p hp q hq
    rw [r2, r3, r4]
    exact ⟨r0, r1, rfl, rfl, rfl⟩
  · obtain ⟨r0, r1, r2, r3, r4⟩ := zq_r2d p hp q hq
    rw [r2, r3, r4]
    exact ⟨r0, r1, rfl, rfl, rfl⟩
theorem zq_x11 {a b F F4 N : Nat} {x11 s2 s3 : Int32} (h : zq_Cs a b F F4 N x11 s2 s3) : (x11 = 1 ∧ s2 = 3 ∧ s3 = 2) ∨ (x11 = 0 ∧ s2 = 2 ∧ s3 = -1) := by
  rcases h with ⟨_, _, _, _, e1, e2, e3⟩ | ⟨_, _, _, _, e1, e2, e3⟩
  · exact Or.inl ⟨e1, e2, e3⟩
  · exact Or.inr ⟨e1, e2, e3⟩
theorem zq_ww128 {p q : Nat} (hp : p < 8) (hq : q < 8) (w : Nat) : zq_ww p q w < 128 := by
  unfold zq_ww
  split
  · omega
  · split
    · omega
    · split <;> omega
theorem zq_bs1 (p q : Nat) : zq_bs p q ≤ 1 := by
  unfold zq_bs
  split <;> omega
end
end
section
/-! the law's stages over TypoSearch -/
section
variable {pr sz no on tw kn fs : Int32} {a1 a2 a3 a4 a5 a6 : Nat → Int32}
theorem zq_tpd {post : Int32 → Prop} (h : post sz) : wpX_typed post (pr, sz, no, on, tw, kn, fs, a1, a2, a3, a4, a5, a6) := by
  unfold wpX_typed
  exact h
theorem zq_s457 {post : Int32 → St0 → Prop} {mc ms kc ks a b c p q F F4 N : Nat} {x11 s2 s3 : Int32} (hp : p < 8) (hq : q < 8) (hcs : zq_Cs a b F F4 N x11 s2 s3)
    (hG : zq_G a b c 3 (zq_ww p q) 15 a1 a2 a3 a4 a6) (h : post 1 ()) :
    wL_lawOf_457 post mc ms (nI c) (nI (1 - zq_bs p q)) (nI F) 1 kc ks 15 (nI 3) no on tw kn fs a1 a2 a3 a4 a5 a6 := by
  obtain ⟨ha, hb, hc, hW, hT2, hQ, h6⟩ := hG
  have ob := zq_bs1 p q
  have e2 : a4 2 = nI c := hQ 2 (by omega)
  have wp : zq_bit 11 (1 - zq_bs p q) = true := by
    rcases (show 1 - zq_bs p q = 0 ∨ 1 - zq_bs p q = 1 by omega) with e | e
    · rw [e]; decide +kernel
    · rw [e]; decide +kernel
  have hT9 : zq_Wt (zq_w9 p q) (upd a2 (1 - zq_bs p q) (nI 9)) := by
    intro w hw
    unfold zq_w9
    by_cases e : w = 1 - zq_bs p q
    · rw [if_pos e, e, pk_us]
      exact ⟨by omega, rfl⟩
    · rw [if_neg e, pk_un e]
      exact hT2 w hw
  have hQ2 : zq_Qr a b c 2 a4 := fun i hi => hQ i (by omega)
  unfold wL_lawOf_457
  refine zq_rub (n := 2) (by omega) (zq_rem (w := 2) (pr' := 11) (by omega) (zq_p15 2 (by omega)) (by decide +kernel) (zq_wgh (p := 9) (by omega) wp (by omega) ?_))
  refine br_f (by decide) (br_t e2 (br_f (by decide) (br_f (by decide) ?_)))
  refine zq_fnd ha hb hc (by omega) zq_q11 hW hQ2 (zq_hF4 ha hb hc hcs) (fun no on tw a5 a6 h6' => br_t (zq_hFm hcs) ?_)
  refine zq_atL (k := 0) (by omega) ⟨ha, hb, hc, hW, hT9, hQ2, h6'⟩ (zq_hT4 ha hb hc hcs) (by omega) (zq_h4 hp hq hcs) (br_t rfl (zq_tpd (br_t rfl ?_)))
  exact zq_plno (w := 2) (by omega) (by decide +kernel) (br_t rfl h)
theorem zq_s361 {post : Int32 → St0 → Prop} {mc ms kc ks a b c p q F F4 N : Nat} {x11 s2 s3 : Int32} (hp : p < 8) (hq : q < 8) (hcs : zq_Cs a b F F4 N x11 s2 s3)
    (ha : a < 4) (hb : b < 4) (hc : c < 4) (hW : zq_Wd a b c a1 a3) (hT2 : zq_Wt (zq_ww p q) a2) (hQ : zq_Qr a b c 2 a4) (h : post 1 ()) :
    wL_lawOf_361 post mc ms (nI c) x11 (nI (zq_bs p q)) (nI (1 - zq_bs p q)) (nI F) 1 kc ks 15 (nI 2) no on tw kn fs a1 a2 a3 a4 a5 a6 := by
  unfold wL_lawOf_361
  refine zq_typ (n := 2) ha hb hc (by omega) zq_q15 hW hQ rfl (zq_hF ha hb hc hcs (by omega) (by omega)) (zq_hB hcs) (zq_hN hcs) (fun no on tw a4 a5 a6 hQ3 h63 => br_f (by decide) ?_)
  have hG3 : zq_G a b c 3 (zq_ww p q) 15 a1 a2 a3 a4 a6 := ⟨ha, hb, hc, hW, hT2, hQ3, h63⟩
  have hT3 : zq_Tb a b c 3 F 15 (zq_tc 3) (zq_iqt 3) := zq_hT ha hb hc hcs (by omega) (by omega) (by omega)
  have r := zq_h3 hp hq hcs
  have bb := zq_hb hcs
  have key : wL_lawOf_389 post mc ms (nI c) (nI (zq_bs p q)) (nI (1 - zq_bs p q)) (nI F) (nI N) (nI N) kc ks 15 (nI 3) no on tw 1 (nI F) a1 a2 a3 a4 a5 a6 :=
    zq_s389 (fun ψ hψ => zq_atL (k := 0) (by omega) hG3 hT3 (by omega) r.1 hψ) (fun ψ hψ => zq_atL (k := 1) (by omega) hG3 hT3 (by omega) r.2.1 hψ) (fun ψ hψ => zq_atL (k := 2) (by omega) hG3 hT3 (by omega) r.2.2 hψ)
      (fun ψ hψ => zq_tpL (w := 0) hG3 hT3 (by omega) bb.1 rfl hψ) (fun ψ hψ => zq_tpL (w := 2) hG3 hT3 (by omega) bb.2.1 rfl hψ) (fun ψ hψ => zq_cmL hG3 hT3 bb.1 bb.2.2 hψ)
      (zq_s457 hp hq hcs hG3 h)
  rcases hcs with ⟨_, _, _, rfl, rfl, _⟩ | ⟨_, _, _, rfl, rfl, _⟩
  · exact br_f (by decide) key
  · exact br_t rfl key
theorem zq_s164 {post : Int32 → St0 → Prop} {mc ms kc ks a b c p q F F4 N : Nat} {x11 s2 s3 x13 x14 : Int32} (hp : p < 8) (hq : q < 8) (hcs : zq_Cs a b F F4 N x11 s2 s3)
    (e13 : x13 = nI (zq_bs p q)) (e14 : x14 = nI (zq_bs p q)) (ha : a < 4) (hb : b < 4) (hc : c < 4) (hW : zq_Wd a b c a1 a3) (hT2 : zq_Wt (zq_ww p q) a2) (h : post 1 ()) :
    wL_lawOf_164 post mc ms (nI a) (nI b) (nI c) 1 x11 (nI 15) x13 x14 kc ks 15 (nI 0) no on tw kn fs a1 a2 a3 a4 a5 a6 := by
  subst e13 e14
  unfold wL_lawOf_164
  refine nm_r (e' := nI (1 - zq_bs p q)) (pk_sub (a := 1) (zq_bs1 p q)) ?_
  refine zq_typ (n := 0) ha hb hc (by omega) zq_q15 hW (fun i hi => absurd hi (by omega)) rfl (zq_hF ha hb hc hcs (by omega) (by omega)) (zq_hB hcs) (zq_hN hcs) (fun no on tw a4 a5 a6 hQ1 _ => ?_)
  refine zq_typ (n := 1) ha hb hc (by omega) zq_q15 hW hQ1 rfl (zq_hF ha hb hc hcs (by omega) (by omega)) (zq_hB hcs) (zq_hN hcs) (fun no on tw a4 a5 a6 hQ2 h62 => ?_)
  have hG2 : zq_G a b c 2 (zq_ww p q) 15 a1 a2 a3 a4 a6 := ⟨ha, hb, hc, hW, hT2, hQ2, h62⟩
  have hT : zq_Tb a b c 2 F 15 (zq_tc 2) (zq_iqt 2) := zq_hT ha hb hc hcs (by omega) (by omega) (by omega)
  have r := zq_h2 hp hq hcs
  have bb := zq_hb hcs
  have key : wL_lawOf_234 post mc ms (nI c) x11 (nI (zq_bs p q)) (nI (1 - zq_bs p q)) (nI F) (nI N) (nI N) kc ks 15 (nI 2) no on tw 1 (nI F) a1 a2 a3 a4 a5 a6 := by
    unfold wL_lawOf_234
    refine br_t rfl (zq_fndk (br_t rfl ?_))
    refine zq_s252 (zq_x11 hcs) (fun ψ hψ => zq_atL (k := 0) (by omega) hG2 hT (by omega) r.1 hψ) (fun ψ hψ => zq_atL (k := 1) (by omega) hG2 hT (by omega) r.2.1 hψ)
      (fun ψ hψ => zq_atL (k := 2) (by omega) hG2 hT (by omega) rfl ?_) (fun ψ hψ => zq_atL (k := 3) (by omega) hG2 hT (by omega) rfl ?_)
      (fun ψ hψ => zq_cmL hG2 hT bb.1 bb.2.2 hψ) (fun ψ hψ => zq_tpL (w := 2) hG2 hT (by omega) bb.2.1 rfl hψ) (fun ψ hψ => zq_plL (w := 2) (by omega) hG2 hT (by omega) bb.2.1 rfl ?_)
      (zq_s361 hp hq hcs ha hb hc hW hT2 hQ2 h)
    · have t := r.2.2.1
      unfold zq_g at t
      rw [t]
      exact hψ
    · have t := r.2.2.2.1
      unfold zq_g at t
      rw [t]
      exact hψ
    · have t := r.2.2.2.2
      unfold zq_g at t
      rw [t]
      exact hψ
  have k201 : wL_lawOf_201 post mc ms (nI c) 1 x11 (nI 15) (nI (zq_bs p q)) (nI (zq_bs p q)) (nI (1 - zq_bs p q)) (nI N) (nI F) kc ks 15 (nI 2) no on tw 1 (nI F) a1 a2 a3 a4 a5 a6 := by
    unfold wL_lawOf_201
    refine br_f (by decide) (br_t rfl (br_t rfl ?_))
    rcases hcs with ⟨_, _, _, rfl, rfl, _⟩ | ⟨_, _, _, rfl, rfl, _⟩
    · exact br_f (by decide) key
    · exact br_t rfl key
  rcases hcs with ⟨_, rfl, _, _, rfl, _⟩ | ⟨_, rfl, _, _, rfl, _⟩
  · exact br_f (by decide) k201
  · exact br_t rfl k201
theorem zq_s135 {post : Int32 → St0 → Prop} {mc ms kc ks a b c p q F F4 N : Nat} {x11 s2 s3 : Int32} (hp : p < 8) (hq : q < 8) (hcs : zq_Cs a b F F4 N x11 s2 s3)
    (ha : a < 4) (hb : b < 4) (hc : c < 4) (hW : zq_Wd a b c a1 a3) (hT2 : zq_Wt (zq_ww p q) a2) (h : post 1 ()) :
    wL_lawOf_135 post mc ms (nI a) (nI b) (nI c) (nI p) (nI q) 1 x11 kc ks 15 (nI 0) no on tw 0 fs a1 a2 a3 a4 a5 a6 := by
  unfold wL_lawOf_135
  have hQ0 : zq_Qr a b c 0 a4 := fun i hi => absurd hi (by omega)
  refine zq_fnd ha hb hc (by omega) zq_q15 hW hQ0 (zq_t15 a ha b hb c hc 0 (by omega)) (fun no on tw a5 a6 h6 => ?_)
  refine zq_atL (F := 15) (k := 0) (by omega) ⟨ha, hb, hc, hW, hT2, hQ0, h6⟩ (zq_hT0 ha hb hc) (by omega) (zq_r0 p hp q hq) ?_
  refine pk_lt p q (fun z => zq_s164 hp hq hcs rfl ?_ ha hb hc hW hT2 h) (fun z => zq_s164 hp hq hcs rfl ?_ ha hb hc hW hT2 h)
  · unfold zq_bs
    rw [if_pos z]
    rfl
  · unfold zq_bs
    rw [if_neg (by omega)]
    rfl
end
end
section
/-! the top -/
theorem zq_cell {post : Int32 → Prop} {L k : Nat} {xs : Nat → Int32} {u : St0} (hL : L ≤ 4) (hk : k < 128) (h : ∀ r, post r) : wpL_cellAt post L xs u (nI k) := by
  unfold wpL_cellAt
  exact pk_le L k (fun _ => h 0) (fun z => ⟨pk_in k L z, h _⟩)
theorem zq_hW0 (a b c : Nat) : zq_Wd a b c (upd (upd (upd (upd (upd (upd (upd (upd (upd (fun _ => 0) 0 (nI 1)) 0 (nI (1 + 1))) 1 (nI 1)) 1 (nI (1 + 1))) 2 (nI 1)) 2 (nI (1 + 1))) 2 (nI (2 + 1))) 3 (nI 1)) 3 (nI (1 + 1))) (upd (upd (upd (upd (upd (upd (upd (upd (upd (fun _ => 0) (0 * 6) (nI a)) (0 * 6 + 1) (nI b)) (1 * 6) (nI a)) (1 * 6 + 1) (nI b)) (2 * 6) (nI a)) (2 * 6 + 1) (nI b)) (2 * 6 + 2) (nI c)) (3 * 6) (nI b)) (3 * 6 + 1) (nI a)) := by
  intro w hw
  rcases (show w = 0 ∨ w = 1 ∨ w = 2 ∨ w = 3 by omega) with rfl | rfl | rfl | rfl
  · refine ⟨rfl, fun k hk => ?_⟩
    have hk' : k < 2 := hk
    rcases (show k = 0 ∨ k = 1 by omega) with rfl | rfl
    · rfl
    · rfl
  · refine ⟨rfl, fun k hk => ?_⟩
    have hk' : k < 2 := hk
    rcases (show k = 0 ∨ k = 1 by omega) with rfl | rfl
    · rfl
    · rfl
  · refine ⟨rfl, fun k hk => ?_⟩
    have hk' : k < 3 := hk
    rcases (show k = 0 ∨ k = 1 ∨ k = 2 by omega) with rfl | rfl | rfl
    · rfl
    · rfl
    · rfl
  · refine ⟨rfl, fun k hk => ?_⟩
    have hk' : k < 2 := hk
    rcases (show k = 0 ∨ k = 1 by omega) with rfl | rfl
    · rfl
    · rfl
theorem zq_hT0w {p q : Nat} (hp : p < 8) (hq : q < 8) : zq_Wt (zq_ww p q) (upd (upd (upd (upd (fun _ => 0) 0 (nI p)) 1 (nI q)) 2 (nI 9)) 3 (nI 0)) := by
  intro w hw
  refine ⟨zq_ww128 hp hq w, ?_⟩
  rcases (show w = 0 ∨ w = 1 ∨ w = 2 ∨ w = 3 by omega) with rfl | rfl | rfl | rfl
  · rfl
  · rfl
  · rfl
  · rfl
theorem zq_lawOf {post : Int32 → St0 → Prop} (x y z w : Int32) (h : post 1 ()) : wpL_lawOf post 36 576 () x y z w := by
  obtain ⟨a, ha, ea⟩ := pk_andE x (m := 3) 2 (by decide)
  obtain ⟨b, hb, eb⟩ := pk_andE y (m := 3) 2 (by decide)
  obtain ⟨c, hc, ec⟩ := pk_andE z (m := 3) 2 (by decide)
  obtain ⟨p, hp, ep⟩ := pk_andE w (m := 7) 3 (by decide)
  obtain ⟨q, hq, eq⟩ := pk_andE (w >>> ((3 : Int32) &&& 31)) (m := 7) 3 (by decide)
  have ha : a < 4 := ha
  have hb : b < 4 := hb
  have hc : c < 4 := hc
  have hp : p < 8 := hp
  have hq : q < 8 := hq
  unfold wpL_lawOf
  refine ⟨by omega, by omega, 6, 100, by omega, by omega, ?_⟩
  unfold wpX_init
  dsimp only
  refine ⟨by omega, by omega, by omega, by omega, by omega, by omega, by omega, by omega, by omega, by omega, by omega, by omega, ?_⟩
  refine nm_r ea (nm_r eb (nm_r ec (nm_r ep (nm_r eq ?_))))
  refine zq_begin (j := 0) (pr' := 1) (by omega) (fun w hw => absurd hw (by omega)) (by decide +kernel) (by decide +kernel) ha (by omega) ?_
  dsimp only
  refine zq_ext (w := 0) (m := 1) (by omega) (by decide +kernel) hb rfl (by omega) ?_
  dsimp only
  refine zq_begin (j := 1) (pr' := 3) (by omega) (by decide +kernel) (by decide +kernel) (by decide +kernel) ha (by omega) ?_
  dsimp only
  refine zq_ext (w := 1) (m := 1) (by omega) (by decide +kernel) hb rfl (by omega) ?_
  dsimp only
  refine zq_begin (j := 2) (p := 9) (pr' := 7) (by omega) (by decide +kernel) (by decide +kernel) (by decide +kernel) ha (by omega) ?_
  dsimp only
  refine zq_ext (w := 2) (m := 1) (by omega) (by decide +kernel) hb rfl (by omega) ?_
  dsimp only
  refine zq_ext (w := 2) (m := 2) (by omega) (by decide +kernel) hc rfl (by omega) ?_
  dsimp only
  refine zq_begin (j := 3) (p := 0) (pr' := 15) (by omega) (by decide +kernel) (by decide +kernel) (by decide +kernel) hb (by omega) ?_
  dsimp only
  refine zq_ext (w := 3) (m := 1) (by omega) (by decide +kernel) ha rfl (by omega) ?_
  dsimp only
  exact pk_eq a b (fun e => zq_s135 (F := 15) (F4 := 11) (N := 4) (s2 := 3) (s3 := 2) hp hq (Or.inl ⟨e, rfl, rfl, rfl, rfl, rfl, rfl⟩) ha hb hc (zq_hW0 a b c) (zq_hT0w hp hq) h)
    (fun e => zq_s135 (F := 7) (F4 := 3) (N := 3) (s2 := 2) (s3 := -1) hp hq (Or.inr ⟨e, rfl, rfl, rfl, rfl, rfl, rfl⟩) ha hb hc (zq_hW0 a b c) (zq_hT0w hp hq) h)
theorem i_vc (xs : Nat → Int32) (L : Nat) (hL : L ≤ 4) : wpL_law (fun r => r = 1) L xs := by
  unfold wpL_law
  exact zq_cell (k := 0) hL (by omega) (fun r1 => zq_cell (k := 1) hL (by omega) (fun r2 => zq_cell (k := 2) hL (by omega) (fun r3 => zq_cell (k := 3) hL (by omega) (fun r4 =>
    ⟨36, 576, by omega, by omega, zq_lawOf r1 r2 r3 r4 rfl⟩))))
end
