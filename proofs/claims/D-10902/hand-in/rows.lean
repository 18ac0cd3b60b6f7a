section
/-! plain rows: Int32 against naturals -/
def cs_G (g p : Int32) : Prop := (g = 0 ∧ (p < 0 ∨ 8 ≤ p)) ∨ (g = 1 ∧ ∃ c : Nat, c < 8 ∧ p = nI c)
def cs_A (g p z : Int32) : Prop := (g = 0 ∧ z = -1 ∧ (p < 0 ∨ 4 ≤ p)) ∨ (g = 1 ∧ z = 0 ∧ ∃ s : Nat, s < 4 ∧ p = nI s)
theorem cs_10 : ¬ (1 : Int32) = 0 := by decide
theorem cs_ci {post : Int32 → Prop} {c : Nat} (hc : c < 8) (h : post 1) : wpX_isCircuit post () (nI c) :=
  br_f (nI_pos (by omega)) (br_f (nI_ge (b := 8) hc (by decide)) h)
theorem cs_ciB {post : Int32 → Prop} {p : Int32} (hb : p < 0 ∨ 8 ≤ p) (h : post 0) : wpX_isCircuit post () p :=
  br_c (fun _ => h) (fun z => br_t (hb.resolve_left z) h)
theorem cs_st {post : Int32 → Prop} {c : Nat} (hc : c < 4) (h : post 1) : wpX_isStation post () (nI c) :=
  br_f (nI_pos (by omega)) (br_f (nI_ge (b := 4) hc (by decide)) h)
theorem cs_stB {post : Int32 → Prop} {p : Int32} (hb : p < 0 ∨ 4 ≤ p) (h : post 0) : wpX_isStation post () p :=
  br_c (fun _ => h) (fun z => br_t (hb.resolve_left z) h)
theorem cs_co {post : Int32 → Prop} {n : Nat} (hn : n < 1000) (h : post (nI ((n + 12) / 8))) : wpX_cellsOf post () (nI n) := by
  refine ⟨by decide, ?_⟩
  have e : (nI n + 12) / 8 = nI ((n + 12) / 8) := by
    rw [show (12 : Int32) = nI 12 from rfl, nI_add]
    exact pk_div (d := 8) (by omega) (by omega) (by omega)
  rw [e]
  exact h
theorem cs_i0 {c : Nat} {a : Nat → Int32} {x : Int32} (h : a c = x) (hc : c < 2 ^ 31) : a (nI c).toNatClampNeg = x := by
  rw [nI_clamp hc]
  exact h
/-- one place of an array written: the rest stays -/
theorem cs_us {f : Nat → Int32} {k N : Nat} {v x : Int32} (h : ∀ j, j < N → f j = v) (hx : x = v) : ∀ j, j < N → upd f k x j = v := by
  intro j hj
  by_cases e : j = k
  · rw [e, pk_us, hx]
  · rw [pk_un e]
    exact h j hj
theorem cs_upd_id {f : Nat → Int32} {k : Nat} {x : Int32} (h : f k = x) : upd f k x = f := by
  funext j
  by_cases e : j = k
  · rw [e, pk_us, h]
  · rw [pk_un e]
theorem cs_uu {f : Nat → Int32} {k : Nat} {x y : Int32} : upd (upd f k x) k y = upd f k y := by
  funext j
  by_cases e : j = k
  · rw [e, pk_us, pk_us]
  · rw [pk_un e, pk_un e, pk_un e]
theorem cs_subLe {D T K : Nat} (hD : D < 2 ^ 30) (hT : T < 2 ^ 30) (hK : K < 2 ^ 30) : nI D - nI T ≤ nI K ↔ D ≤ K + T := by
  rw [Int32.le_iff_toInt_le, pk_sub_toInt hD hT, nI_toInt (by omega)]
  omega
end
section
/-! a station without anything to send, a station without anything queued, ticks of such a switch -/
theorem cs_next0 {fb fk fc : Int32} {a1 a2 a3 a4 a5 a6 a7 a8 a9 a10 a11 a12 a13 a14 a15 a16 a17 a18 a19 a20 a21 a22 a23 a24 a25 a26 a27 a28 a29 : Nat → Int32} {post : Int32 → Prop} {s m : Nat} (hs : s < 4) (hm : m < 8) (h15 : a15 s = nI m) (hn : ∀ j, j < 8 → a1 j = 0 ∨ ¬ a2 j = nI s ∨ a7 j ≤ 0) (hp : post (-1)) : wpX_nextCircuit post (fb, fk, fc, a1, a2, a3, a4, a5, a6, a7, a8, a9, a10, a11, a12, a13, a14, a15, a16, a17, a18, a19, a20, a21, a22, a23, a24, a25, a26, a27, a28, a29) (nI s) := by
  unfold wpX_nextCircuit
  refine pk_loop (σ := Unit) (fun n i _ => wX_nextCircuit_2 post (nI s) fb fk fc a1 a2 a3 a4 a5 a6 a7 a8 a9 a10 a11 a12 a13 a14 a15 a16 a17 a18 a19 a20 a21 a22 a23 a24 a25 a26 a27 a28 a29 n (nI i)) (fun _ _ => True) 9 1 () (by omega) trivial
    (fun n _ _ => pk_lt 8 9 (fun _ => hp) (fun z => absurd z (by omega))) (fun n i _ hi _ hw => ?_)
  have hw' : wX_nextCircuit_2 post (nI s) fb fk fc a1 a2 a3 a4 a5 a6 a7 a8 a9 a10 a11 a12 a13 a14 a15 a16 a17 a18 a19 a20 a21 a22 a23 a24 a25 a26 a27 a28 a29 n (nI (i + 1)) := hw () trivial
  show wX_nextCircuit_2 post (nI s) fb fk fc a1 a2 a3 a4 a5 a6 a7 a8 a9 a10 a11 a12 a13 a14 a15 a16 a17 a18 a19 a20 a21 a22 a23 a24 a25 a26 a27 a28 a29 (n + 1) (nI i)
  have e : a15 (nI s).toNatClampNeg + nI i - (a15 (nI s).toNatClampNeg + nI i) / 8 * 8 = nI ((m + i) % 8) := by
    rw [nI_clamp (by omega), h15, nI_add]
    exact pk_rem (d := 8) (by omega) (by omega) (by omega)
  have hq : (m + i) % 8 < 8 := Nat.mod_lt _ (by omega)
  refine pk_lt 8 i (fun z => absurd z (by omega)) (fun _ => ⟨pk_in s 4 hs, by decide, nm_r e ⟨pk_in _ 8 hq, ?_⟩⟩)
  rw [nI_clamp (show (m + i) % 8 < 2 ^ 31 by omega)]
  rcases hn _ hq with h | h | h
  · exact br_t h (nm_r (nI_1 i) hw')
  · exact br_c (fun _ => nm_r (nI_1 i) hw') (fun _ => ⟨pk_in _ 8 hq, br_f h (nm_r (nI_1 i) hw')⟩)
  · exact br_c (fun _ => nm_r (nI_1 i) hw') (fun _ => ⟨pk_in _ 8 hq, br_c (fun _ => ⟨pk_in _ 8 hq, br_t h (nm_r (nI_1 i) hw')⟩) (fun _ => nm_r (nI_1 i) hw')⟩)
def cs_idle (a1 a2 a7 a15 : Nat → Int32) (s : Nat) : Prop := (∃ m, m < 8 ∧ a15 s = nI m) ∧ ∀ j, j < 8 → a1 j = 0 ∨ ¬ a2 j = nI s ∨ a7 j ≤ 0
theorem cs_send0 {fb fk fc : Int32} {a1 a2 a3 a4 a5 a6 a7 a8 a9 a10 a11 a12 a13 a14 a15 a16 a17 a18 a19 a20 a21 a22 a23 a24 a25 a26 a27 a28 a29 : Nat → Int32} {post : St2 → Prop} {s : Nat} (hs : s < 4) (h : cs_idle a1 a2 a7 a15 s) (hp : post (fb, fk, fc, a1, a2, a3, a4, a5, a6, a7, a8, a9, a10, a11, a12, a13, a14, a15, a16, a17, a18, a19, a20, a21, a22, a23, a24, a25, a26, a27, a28, a29)) : wpX_sendFrom post (fb, fk, fc, a1, a2, a3, a4, a5, a6, a7, a8, a9, a10, a11, a12, a13, a14, a15, a16, a17, a18, a19, a20, a21, a22, a23, a24, a25, a26, a27, a28, a29) (nI s) := by
  obtain ⟨⟨m, hm, h15⟩, hn⟩ := h
  unfold wpX_sendFrom
  exact cs_next0 hs hm h15 hn (br_f (by decide) hp)
theorem cs_del0 {fb fk fc : Int32} {a1 a2 a3 a4 a5 a6 a7 a8 a9 a10 a11 a12 a13 a14 a15 a16 a17 a18 a19 a20 a21 a22 a23 a24 a25 a26 a27 a28 a29 : Nat → Int32} {post : St2 → Prop} {s : Nat} (hs : s < 4) (h : a19 s = 0) (hp : post (fb, fk, fc, a1, a2, a3, a4, a5, a6, a7, a8, a9, a10, a11, a12, a13, a14, a15, a16, a17, a18, a19, a20, a21, a22, a23, a24, a25, a26, a27, a28, a29)) : wpX_deliverTo post (fb, fk, fc, a1, a2, a3, a4, a5, a6, a7, a8, a9, a10, a11, a12, a13, a14, a15, a16, a17, a18, a19, a20, a21, a22, a23, a24, a25, a26, a27, a28, a29) (nI s) := by
  unfold wpX_deliverTo
  exact ⟨pk_in s 4 hs, br_t (cs_i0 h (by omega)) hp⟩
section
variable {post : Int32 → St2 → Prop} {J : Int32 → Int32 → Int32 → Int32 → (Nat → Int32) → (Nat → Int32) → (Nat → Int32) → (Nat → Int32) → (Nat → Int32) → (Nat → Int32) → (Nat → Int32) → (Nat → Int32) → (Nat → Int32) → (Nat → Int32) → (Nat → Int32) → (Nat → Int32) → (Nat → Int32) → (Nat → Int32) → (Nat → Int32) → (Nat → Int32) → (Nat → Int32) → (Nat → Int32) → (Nat → Int32) → (Nat → Int32) → (Nat → Int32) → (Nat → Int32) → (Nat → Int32) → (Nat → Int32) → (Nat → Int32) → (Nat → Int32) → (Nat → Int32) → (Nat → Int32) → (Nat → Int32) → Prop} {x1 x2 x3 : Int32} {fb fk fc : Int32} {a1 a2 a3 a4 a5 a6 a7 a8 a9 a10 a11 a12 a13 a14 a15 a16 a17 a18 a19 a20 a21 a22 a23 a24 a25 a26 a27 a28 a29 : Nat → Int32}
theorem cs_p61a {k s : Nat} (hk : s + k = 4) (h : ∀ j, s ≤ j → j < 4 → a19 j = 0) (hJ : J (x3 + 1) fb fk fc a1 a2 a3 a4 a5 a6 a7 a8 a9 a10 a11 a12 a13 a14 a15 a16 a17 a18 a19 a20 a21 a22 a23 a24 a25 a26 a27 a28 a29) : wX_pass_61 post J x1 x2 x3 (k + 1) (nI s) fb fk fc a1 a2 a3 a4 a5 a6 a7 a8 a9 a10 a11 a12 a13 a14 a15 a16 a17 a18 a19 a20 a21 a22 a23 a24 a25 a26 a27 a28 a29 := by
  induction k generalizing s with
  | zero =>
    have e : s = 4 := by omega
    subst e
    exact pk_le 4 4 (fun _ => nm_e hJ) (fun z => absurd z (by omega))
  | succ k ih =>
    refine pk_le 4 s (fun z => absurd z (by omega)) (fun _ => cs_del0 (by omega) (h s (by omega) (by omega)) (nm_r (nI_1 s) (ih (by omega) (fun j hj => h j (by omega)))))
theorem cs_p61b {n s : Nat} (hs : s ≤ 4) (h : ∀ j, j < s → a19 j = 0) (hw : wX_pass_61 post J x1 x2 x3 n (nI s) fb fk fc a1 a2 a3 a4 a5 a6 a7 a8 a9 a10 a11 a12 a13 a14 a15 a16 a17 a18 a19 a20 a21 a22 a23 a24 a25 a26 a27 a28 a29) : wX_pass_61 post J x1 x2 x3 (n + s) 0 fb fk fc a1 a2 a3 a4 a5 a6 a7 a8 a9 a10 a11 a12 a13 a14 a15 a16 a17 a18 a19 a20 a21 a22 a23 a24 a25 a26 a27 a28 a29 := by
  have key : ∀ d t, t + d = s → wX_pass_61 post J x1 x2 x3 (n + d) (nI t) fb fk fc a1 a2 a3 a4 a5 a6 a7 a8 a9 a10 a11 a12 a13 a14 a15 a16 a17 a18 a19 a20 a21 a22 a23 a24 a25 a26 a27 a28 a29 := by
    intro d
    induction d with
    | zero =>
      intro t ht
      have e : t = s := by omega
      rw [e]
      exact hw
    | succ d ih =>
      intro t ht
      exact pk_le 4 t (fun z => absurd z (by omega)) (fun _ => cs_del0 (by omega) (h t (by omega)) (nm_r (nI_1 t) (ih (t + 1) (by omega))))
  exact key s 0 (by omega)
theorem cs_p40a {k s : Nat} (hk : s + k = 4) (h : ∀ j, s ≤ j → j < 4 → cs_idle a1 a2 a7 a15 j) (hJ : ∃ n, wX_pass_61 post J x1 x2 x3 n 0 fb fk fc a1 a2 a3 a4 a5 a6 a7 a8 a9 a10 a11 a12 a13 a14 a15 a16 a17 a18 a19 a20 a21 a22 a23 a24 a25 a26 a27 a28 a29) : wX_pass_40 post J x1 x2 x3 (k + 1) (nI s) fb fk fc a1 a2 a3 a4 a5 a6 a7 a8 a9 a10 a11 a12 a13 a14 a15 a16 a17 a18 a19 a20 a21 a22 a23 a24 a25 a26 a27 a28 a29 := by
  induction k generalizing s with
  | zero =>
    have e : s = 4 := by omega
    subst e
    exact pk_le 4 4 (fun _ => hJ) (fun z => absurd z (by omega))
  | succ k ih =>
    refine pk_le 4 s (fun z => absurd z (by omega)) (fun _ => cs_send0 (by omega) (h s (by omega) (by omega)) (nm_r (nI_1 s) (ih (by omega) (fun j hj => h j (by omega)))))
theorem cs_p40b {n s : Nat} (hs : s ≤ 4) (h : ∀ j, j < s → cs_idle a1 a2 a7 a15 j) (hw : wX_pass_40 post J x1 x2 x3 n (nI s) fb fk fc a1 a2 a3 a4 a5 a6 a7 a8 a9 a10 a11 a12 a13 a14 a15 a16 a17 a18 a19 a20 a21 a22 a23 a24 a25 a26 a27 a28 a29) : wX_pass_40 post J x1 x2 x3 (n + s) 0 fb fk fc a1 a2 a3 a4 a5 a6 a7 a8 a9 a10 a11 a12 a13 a14 a15 a16 a17 a18 a19 a20 a21 a22 a23 a24 a25 a26 a27 a28 a29 := by
  have key : ∀ d t, t + d = s → wX_pass_40 post J x1 x2 x3 (n + d) (nI t) fb fk fc a1 a2 a3 a4 a5 a6 a7 a8 a9 a10 a11 a12 a13 a14 a15 a16 a17 a18 a19 a20 a21 a22 a23 a24 a25 a26 a27 a28 a29 := by
    intro d
    induction d with
    | zero =>
      intro t ht
      have e : t = s := by omega
      rw [e]
      exact hw
    | succ d ih =>
      intro t ht
      exact pk_le 4 t (fun z => absurd z (by omega)) (fun _ => cs_send0 (by omega) (h t (by omega)) (nm_r (nI_1 t) (ih (t + 1) (by omega))))
  exact key s 0 (by omega)
/-- a tick of an idle switch -/
theorem cs_tick0 (hi : ∀ s, s < 4 → cs_idle a1 a2 a7 a15 s) (h19 : ∀ s, s < 4 → a19 s = 0) (hJ : J (x3 + 1) fb fk fc a1 a2 a3 a4 a5 a6 a7 a8 a9 a10 a11 a12 a13 a14 a15 a16 a17 a18 a19 a20 a21 a22 a23 a24 a25 a26 a27 a28 a29) : ∃ n, wX_pass_40 post J x1 x2 x3 n 0 fb fk fc a1 a2 a3 a4 a5 a6 a7 a8 a9 a10 a11 a12 a13 a14 a15 a16 a17 a18 a19 a20 a21 a22 a23 a24 a25 a26 a27 a28 a29 :=
  ⟨5, cs_p40a (s := 0) rfl (fun j _ hj => hi j hj) ⟨5, cs_p61a (s := 0) rfl (fun j _ hj => h19 j hj) hJ⟩⟩
end
/-- pass over an idle switch -/
theorem cs_pass0 {fb fk fc : Int32} {a1 a2 a3 a4 a5 a6 a7 a8 a9 a10 a11 a12 a13 a14 a15 a16 a17 a18 a19 a20 a21 a22 a23 a24 a25 a26 a27 a28 a29 : Nat → Int32} {post : Int32 → St2 → Prop} {t k : Nat} (ht : t ≤ 200) (hk : fk = nI k) (hi : ∀ s, s < 4 → cs_idle a1 a2 a7 a15 s) (h19 : ∀ s, s < 4 → a19 s = 0) (hp : post 0 (fb, nI (k + t), fc, a1, a2, a3, a4, a5, a6, a7, a8, a9, a10, a11, a12, a13, a14, a15, a16, a17, a18, a19, a20, a21, a22, a23, a24, a25, a26, a27, a28, a29)) : wpX_pass post (fb, fk, fc, a1, a2, a3, a4, a5, a6, a7, a8, a9, a10, a11, a12, a13, a14, a15, a16, a17, a18, a19, a20, a21, a22, a23, a24, a25, a26, a27, a28, a29) (nI t) := by
  subst hk
  unfold wpX_pass
  refine br_f (nI_pos (by omega)) (br_t (nI_le (b := 200) ht (by decide)) (nm_e ?_))
  refine pk_loop (σ := Unit) (fun n i _ => wX_pass_22 post (nI t) (a29 4) n (nI i) fb (nI (k + i)) fc a1 a2 a3 a4 a5 a6 a7 a8 a9 a10 a11 a12 a13 a14 a15 a16 a17 a18 a19 a20 a21 a22 a23 a24 a25 a26 a27 a28 a29) (fun _ _ => True) t 0 () (by omega) trivial
    (fun n _ _ => pk_le t t (fun _ => ?_) (fun z => absurd z (by omega))) (fun n i _ hit _ hw => pk_le t i (fun z => absurd z (by omega)) (fun _ => nm_r (nI_1 (k + i)) ?_))
  · rw [Int32.sub_self]
    exact hp
  · have hw' : wX_pass_22 post (nI t) (a29 4) n (nI i + 1) fb (nI (k + i + 1)) fc a1 a2 a3 a4 a5 a6 a7 a8 a9 a10 a11 a12 a13 a14 a15 a16 a17 a18 a19 a20 a21 a22 a23 a24 a25 a26 a27 a28 a29 := by
      rw [nI_1]
      exact hw () trivial
    exact cs_tick0 hi h19 hw'
end
section
/-! check numbers: a byte fed, a frame's check number, a head's check; padded bytes -/
def cs_step (x : Int32) : Int32 := if (x &&& 1) = 1 then ((x.toUInt32 >>> ((1 : Int32).toUInt32 &&& Int32.toUInt32 31)).toInt32) ^^^ (-306674912) else ((x.toUInt32 >>> ((1 : Int32).toUInt32 &&& Int32.toUInt32 31)).toInt32) ^^^ 0
def cs_st8 : Nat → Int32 → Int32
  | 0 => fun x => x
  | n + 1 => fun x => cs_step (cs_st8 n x)
def cs_feed (x b : Int32) : Int32 := cs_st8 8 (x ^^^ b)
def cs_crc (P : Nat → Int32) : Nat → Int32
  | 0 => -1
  | n + 1 => cs_feed (cs_crc P n) (P n)
theorem cs_wfeed {fb fk fc : Int32} {a1 a2 a3 a4 a5 a6 a7 a8 a9 a10 a11 a12 a13 a14 a15 a16 a17 a18 a19 a20 a21 a22 a23 a24 a25 a26 a27 a28 a29 : Nat → Int32} {post : St2 → Prop} {b : Int32} (hp : post (fb, fk, cs_feed fc b, a1, a2, a3, a4, a5, a6, a7, a8, a9, a10, a11, a12, a13, a14, a15, a16, a17, a18, a19, a20, a21, a22, a23, a24, a25, a26, a27, a28, a29)) : wpX_feed post (fb, fk, fc, a1, a2, a3, a4, a5, a6, a7, a8, a9, a10, a11, a12, a13, a14, a15, a16, a17, a18, a19, a20, a21, a22, a23, a24, a25, a26, a27, a28, a29) b := by
  unfold wpX_feed
  refine nm_e ?_
  refine pk_loop (σ := Unit) (fun n i _ => wX_feed_12 post fb fk a1 a2 a3 a4 a5 a6 a7 a8 a9 a10 a11 a12 a13 a14 a15 a16 a17 a18 a19 a20 a21 a22 a23 a24 a25 a26 a27 a28 a29 n (nI i) (cs_st8 i (fc ^^^ b))) (fun _ _ => True) 8 0 () (by omega) trivial
    (fun n _ _ => pk_le 8 8 (fun _ => hp) (fun z => absurd z (by omega))) (fun n i _ hi _ hw => pk_le 8 i (fun z => absurd z (by omega)) (fun _ => ?_))
  have hw' : wX_feed_12 post fb fk a1 a2 a3 a4 a5 a6 a7 a8 a9 a10 a11 a12 a13 a14 a15 a16 a17 a18 a19 a20 a21 a22 a23 a24 a25 a26 a27 a28 a29 n (nI (i + 1)) (cs_step (cs_st8 i (fc ^^^ b))) := hw () trivial
  refine br_c (fun z => ?_) (fun z => ?_)
  · rw [cs_step, if_pos z] at hw'
    exact nm_e (nm_r (nI_1 i) hw')
  · rw [cs_step, if_neg z] at hw'
    exact nm_e (nm_r (nI_1 i) hw')
/-- byte j of a frame of n bytes d with what is put behind it (A bytes in all), but for the check number -/
def cs_pad (d : Nat → Int32) (n A j : Nat) : Int32 := if j < n then d j else if j = A - 5 then nI n else 0
theorem cs_wpad {fb fk fc : Int32} {a1 a2 a3 a4 a5 a6 a7 a8 a9 a10 a11 a12 a13 a14 a15 a16 a17 a18 a19 a20 a21 a22 a23 a24 a25 a26 a27 a28 a29 : Nat → Int32} {post : Int32 → Prop} {d : Nat → Int32} {f n A j : Nat} (hf : f < 16) (hn : n ≤ 27) (hA : 5 ≤ A) (hA2 : A < 1000) (hj : j < 1000) (h8 : a8 f = nI n) (h9 : ∀ i, i < n → a9 (27 * f + i) = d i) (hp : post (cs_pad d n A j)) : wpX_paddedByte post (fb, fk, fc, a1, a2, a3, a4, a5, a6, a7, a8, a9, a10, a11, a12, a13, a14, a15, a16, a17, a18, a19, a20, a21, a22, a23, a24, a25, a26, a27, a28, a29) (nI f) (nI j) (nI A) := by
  unfold wpX_paddedByte
  unfold cs_pad at hp
  refine ⟨pk_in f 16 hf, ?_⟩
  refine pk_le n j (fun z => ?_) (fun z => ?_) (cs_i0 h8 (by omega))
  · rw [if_neg (by omega)] at hp
    refine pk_eq j (A - 5) (fun e => ?_) (fun e => ?_) rfl (pk_sub (a := A) (b := 5) hA)
    · rw [if_pos e] at hp
      refine ⟨pk_in f 16 hf, ?_⟩
      rw [cs_i0 h8 (by omega)]
      exact hp
    · rw [if_neg e] at hp
      exact hp
  · rw [if_pos z] at hp
    have e : 27 * nI f + nI j = nI (27 * f + j) := by
      rw [show (27 : Int32) = nI 27 from rfl, pk_mul, nI_add]
    rw [e]
    refine ⟨pk_in (27 * f + j) 432 (by omega), ?_⟩
    rw [nI_clamp (by omega), h9 j z]
    exact hp
theorem cs_wcheck {fb fk fc : Int32} {a1 a2 a3 a4 a5 a6 a7 a8 a9 a10 a11 a12 a13 a14 a15 a16 a17 a18 a19 a20 a21 a22 a23 a24 a25 a26 a27 a28 a29 : Nat → Int32} {post : Int32 → St2 → Prop} {d : Nat → Int32} {f n A : Nat} (hf : f < 16) (hn : n ≤ 27) (hA : 5 ≤ A) (hA2 : A < 1000) (h8 : a8 f = nI n) (h9 : ∀ i, i < n → a9 (27 * f + i) = d i) (hp : post (cs_crc (cs_pad d n A) (A - 4)) (fb, fk, cs_crc (cs_pad d n A) (A - 4), a1, a2, a3, a4, a5, a6, a7, a8, a9, a10, a11, a12, a13, a14, a15, a16, a17, a18, a19, a20, a21, a22, a23, a24, a25, a26, a27, a28, a29)) : wpX_checkOfFrame post (fb, fk, fc, a1, a2, a3, a4, a5, a6, a7, a8, a9, a10, a11, a12, a13, a14, a15, a16, a17, a18, a19, a20, a21, a22, a23, a24, a25, a26, a27, a28, a29) (nI f) (nI A) := by
  unfold wpX_checkOfFrame
  refine pk_loop (σ := Unit) (fun m i _ => wX_checkOfFrame_7 post (nI f) (nI A) m (nI i) fb fk (cs_crc (cs_pad d n A) i) a1 a2 a3 a4 a5 a6 a7 a8 a9 a10 a11 a12 a13 a14 a15 a16 a17 a18 a19 a20 a21 a22 a23 a24 a25 a26 a27 a28 a29) (fun _ _ => True) (A - 4) 0 () (by omega) trivial
    (fun m _ _ => pk_le (A - 4) (A - 4) (fun _ => hp) (fun z => absurd z (by omega)) (pk_sub (a := A) (b := 4) (by omega))) (fun m i _ hi _ hw => pk_le (A - 4) i (fun z => absurd z (by omega)) (fun _ => ?_) (pk_sub (a := A) (b := 4) (by omega)))
  have hw' : wX_checkOfFrame_7 post (nI f) (nI A) m (nI (i + 1)) fb fk (cs_feed (cs_crc (cs_pad d n A) i) (cs_pad d n A i)) a1 a2 a3 a4 a5 a6 a7 a8 a9 a10 a11 a12 a13 a14 a15 a16 a17 a18 a19 a20 a21 a22 a23 a24 a25 a26 a27 a28 a29 := hw () trivial
  exact cs_wpad hf hn hA hA2 (by omega) h8 h9 (cs_wfeed (nm_r (nI_1 i) hw'))
def cs_hstep (bits x k : Int32) : Int32 := if (((x >>> ((7 : Int32) &&& 31)) ^^^ ((bits >>> (k &&& 31)) &&& 1)) &&& 1) = 1 then ((x <<< ((1 : Int32) &&& 31)) &&& 255) ^^^ 7 else ((x <<< ((1 : Int32) &&& 31)) &&& 255) ^^^ 0
def cs_hc (bits : Int32) : Nat → Int32 → Int32
  | 0 => fun x => x
  | n + 1 => fun x => cs_hc bits n (cs_hstep bits x (nI n))
def cs_hk (a b c : Int32) : Int32 := cs_hc (((a <<< ((16 : Int32) &&& 31)) ||| (b <<< ((8 : Int32) &&& 31))) ||| c) 24 0
theorem cs_whead {post : Int32 → Prop} {a b c : Int32} (hp : post (cs_hk a b c)) : wpX_headCheck post () a b c := by
  unfold wpX_headCheck
  refine nm_e ?_
  unfold cs_hk at hp
  generalize ((a <<< ((16 : Int32) &&& 31)) ||| (b <<< ((8 : Int32) &&& 31))) ||| c = bits at hp ⊢
  have key : ∀ (n : Nat) (x : Int32), n ≤ 24 → post (cs_hc bits n x) → wX_headCheck_19 post bits (n + 1) x (nI n + (-1)) := by
    intro n
    induction n with
    | zero =>
      intro x _ h
      exact br_t (by decide) h
    | succ n ih =>
      intro x hn h
      rw [pk_m1]
      refine br_f (nI_pos (by omega)) (nm_e ?_)
      have h' : post (cs_hc bits n (cs_hstep bits x (nI n))) := h
      refine br_c (fun z => ?_) (fun z => ?_)
      · rw [cs_hstep, if_pos z] at h'
        exact nm_e (nm_e (ih _ (by omega) h'))
      · rw [cs_hstep, if_neg z] at h'
        exact nm_e (nm_e (ih _ (by omega) h'))
  exact ⟨25, key 24 0 (by omega) hp⟩
end
section
/-! a cell made -/
/-- byte t of a frame with all that is put behind it -/
def cs_Q (d : Nat → Int32) (n A t : Nat) : Int32 := if t < A - 4 then cs_pad d n A t else ((((cs_crc (cs_pad d n A) (A - 4)).toUInt32 >>> ((nI (8 * (A - 1 - t))).toUInt32 &&& Int32.toUInt32 31)).toInt32) &&& 255)
def cs_m (n : Nat) : Nat := (n + 12) / 8
def cs_hd (c n i : Nat) : Nat := 16 * c + (if i + 1 = cs_m n then 8 else 0) + i
/-- the cell on its way is cell i of circuit c's frame -/
def cs_Cl (c n : Nat) (d : Nat → Int32) (i : Nat) (x : Nat → Int32) : Prop :=
  x 0 = nI (cs_hd c n i) ∧ x 1 = 0 ∧ x 2 = 0 ∧ x 3 = cs_hk (nI (cs_hd c n i)) 0 0 ∧ ∀ r, r < 8 → x (4 + r) = cs_Q d n (8 * cs_m n) (8 * i + r)
theorem cs_hd8 : ∀ c, c < 8 → ∀ i, i < 4 → (((nI c <<< ((4 : Int32) &&& 31)) ||| 8) ||| nI i) = nI (16 * c + 8 + i) := by decide +kernel
theorem cs_hd0 : ∀ c, c < 8 → ∀ i, i < 4 → (((nI c <<< ((4 : Int32) &&& 31)) ||| 0) ||| nI i) = nI (16 * c + 0 + i) := by decide +kernel
theorem cs_mb {n : Nat} (h1 : 1 ≤ n) (h2 : n ≤ 27) : 1 ≤ cs_m n ∧ cs_m n ≤ 4 ∧ n + 5 ≤ 8 * cs_m n ∧ 8 * cs_m n ≤ n + 12 := by
  unfold cs_m
  omega
theorem cs_end {fb fk fc : Int32} {a1 a2 a3 a4 a5 a6 a7 a8 a9 a10 a11 a12 a13 a14 a15 a16 a17 a18 a19 a20 a21 a22 a23 a24 a25 a26 a27 a28 a29 : Nat → Int32} {post : St2 → Prop} {c : Nat} (hc : c < 8) (hp : ∀ b8 b9, post (fb, fk, fc, a1, a2, a3, a4, a5, a6, upd a7 c (a7 c - 1), b8, b9, upd a10 c 0, upd a11 c (a11 c + 1), a12, a13, a14, a15, a16, a17, a18, a19, a20, a21, a22, a23, a24, a25, a26, a27, a28, a29)) : wpX_endFrame post (fb, fk, fc, a1, a2, a3, a4, a5, a6, a7, a8, a9, a10, a11, a12, a13, a14, a15, a16, a17, a18, a19, a20, a21, a22, a23, a24, a25, a26, a27, a28, a29) (nI c) := by
  unfold wpX_endFrame
  have ec : (nI c).toNatClampNeg = c := nI_clamp (by omega)
  have e2 : 2 * nI c = nI (2 * c) := pk_mul 2 c
  refine ⟨pk_in c 8 hc, nm_e ⟨pk_in c 8 hc, pk_in c 8 hc, nm_e ⟨pk_in c 8 hc, pk_in c 8 hc, nm_e (nm_r e2 ⟨?_, pk_in (2 * c) 16 (by omega), nm_e ?_⟩)⟩⟩⟩
  · rw [nI_1]
    exact pk_in (2 * c + 1) 16 (by omega)
  · rw [ec]
    refine pk_loop (fun n i s => wX_endFrame_47 post (nI (2 * c)) fb fk fc n (nI i) a1 a2 a3 a4 a5 a6 (upd a7 c (a7 c - 1)) (upd a8 (nI (2 * c)).toNatClampNeg (a8 (nI (2 * c) + 1).toNatClampNeg)) s (upd a10 c 0) (upd a11 c (a11 c + 1)) a12 a13 a14 a15 a16 a17 a18 a19 a20 a21 a22 a23 a24 a25 a26 a27 a28 a29) (fun _ _ => True) 27 0 a9 (by omega) trivial
      (fun n s _ => pk_le 27 27 (fun _ => hp _ _) (fun z => absurd z (by omega))) (fun n i s hi _ hw => pk_le 27 i (fun z => absurd z (by omega)) (fun _ => ⟨?_, ?_, nm_e (nm_r (nI_1 i) (hw _ trivial))⟩))
    · rw [show (27 : Int32) = nI 27 from rfl, pk_mul, nI_add, nI_add]
      exact pk_in (27 * (2 * c) + 27 + i) 432 (by omega)
    · rw [show (27 : Int32) = nI 27 from rfl, pk_mul, nI_add]
      exact pk_in (27 * (2 * c) + i) 432 (by omega)
section
variable {post : St2 → Prop} {fb fk fc : Int32} {a1 a2 a3 a4 a5 a6 a7 a8 a9 a10 a11 a12 a13 a14 a15 a16 a17 a18 a19 a20 a21 a22 a23 a24 a25 a26 a27 a28 a29 : Nat → Int32} {c n i : Nat} {d : Nat → Int32}
/-- the loop that fills the cell, and what comes behind it -/
theorem cs_mk129 (hc : c < 8) (hn1 : 1 ≤ n) (hn : n ≤ 27) (hi : i < cs_m n) (h8 : a8 (2 * c) = nI n) (h9 : ∀ j, j < n → a9 (27 * (2 * c) + j) = d j) (h10 : a10 c = nI i) {a : Nat → Int32}
    (ha0 : a 0 = nI (cs_hd c n i)) (ha1 : a 1 = 0) (ha2 : a 2 = 0) (ha3 : a 3 = cs_hk (nI (cs_hd c n i)) 0 0)
    (hN : i + 1 < cs_m n → ∀ b14, cs_Cl c n d i b14 → post (fb, fk, fc, a1, a2, a3, a4, a5, a6, a7, a8, a9, upd a10 c (nI (i + 1)), a11, a12, a13, b14, a15, a16, a17, a18, a19, a20, a21, a22, a23, a24, a25, a26, a27, a28, a29))
    (hE : i + 1 = cs_m n → ∀ b8 b9 b14, cs_Cl c n d i b14 → post (fb, fk, fc, a1, a2, a3, a4, a5, a6, upd a7 c (a7 c - 1), b8, b9, upd a10 c 0, upd a11 c (a11 c + 1), a12, a13, b14, a15, a16, a17, a18, a19, a20, a21, a22, a23, a24, a25, a26, a27, a28, a29)) :
    ∃ fu, wX_makeCell_129 post (nI c) (nI (2 * c)) (nI (cs_m n)) (nI i) (nI (8 * cs_m n)) (cs_crc (cs_pad d n (8 * cs_m n)) (8 * cs_m n - 4)) fb fk fc fu 0 a1 a2 a3 a4 a5 a6 a7 a8 a9 a10 a11 a12 a13 a a15 a16 a17 a18 a19 a20 a21 a22 a23 a24 a25 a26 a27 a28 a29 := by
  obtain ⟨m1, m2, m3, m4⟩ := cs_mb hn1 hn
  have ec : (nI c).toNatClampNeg = c := nI_clamp (by omega)
  refine pk_loop (fun u j s => wX_makeCell_129 post (nI c) (nI (2 * c)) (nI (cs_m n)) (nI i) (nI (8 * cs_m n)) (cs_crc (cs_pad d n (8 * cs_m n)) (8 * cs_m n - 4)) fb fk fc u (nI j) a1 a2 a3 a4 a5 a6 a7 a8 a9 a10 a11 a12 a13 s a15 a16 a17 a18 a19 a20 a21 a22 a23 a24 a25 a26 a27 a28 a29)
    (fun j s => s 0 = nI (cs_hd c n i) ∧ s 1 = 0 ∧ s 2 = 0 ∧ s 3 = cs_hk (nI (cs_hd c n i)) 0 0 ∧ ∀ r, r < j → s (4 + r) = cs_Q d n (8 * cs_m n) (8 * i + r)) 8 0 a (by omega) ⟨ha0, ha1, ha2, ha3, fun r hr => absurd hr (by omega)⟩ (fun u s hs => ?_) (fun u j s hj hs hw => ?_)
  · refine pk_le 8 8 (fun _ => ⟨pk_in c 8 hc, pk_in c 8 hc, nm_r (e' := upd a10 c (nI (i + 1))) (by rw [ec, h10, nI_1]) ⟨pk_in c 8 hc, ?_⟩⟩) (fun z => absurd z (by omega))
    rw [ec, pk_us]
    refine pk_eq (i + 1) (cs_m n) (fun e => cs_end hc (fun b8 b9 => ?_)) (fun e => hN (by omega) s hs)
    rw [cs_uu]
    exact hE e b8 b9 s hs
  · obtain ⟨s0, s1, s2, s3, s4⟩ := hs
    have hw' : ∀ v, v = cs_Q d n (8 * cs_m n) (8 * i + j) → wX_makeCell_129 post (nI c) (nI (2 * c)) (nI (cs_m n)) (nI i) (nI (8 * cs_m n)) (cs_crc (cs_pad d n (8 * cs_m n)) (8 * cs_m n - 4)) fb fk fc u (nI (j + 1)) a1 a2 a3 a4 a5 a6 a7 a8 a9 a10 a11 a12 a13 (upd s (4 + j) v) a15 a16 a17 a18 a19 a20 a21 a22 a23 a24 a25 a26 a27 a28 a29 := by
      intro v hv
      refine hw _ ⟨?_, ?_, ?_, ?_, fun r hr => ?_⟩
      · rw [pk_un (by omega)]
        exact s0
      · rw [pk_un (by omega)]
        exact s1
      · rw [pk_un (by omega)]
        exact s2
      · rw [pk_un (by omega)]
        exact s3
      · by_cases e : r = j
        · rw [e, pk_us, hv]
        · rw [pk_un (by omega)]
          exact s4 r (by omega)
    have e4 : (4 : Int32) + nI j = nI (4 + j) := nI_add 4 j
    refine pk_le 8 j (fun z => absurd z (by omega)) (fun _ => nm_r (e' := nI (8 * i + j)) (by rw [show (8 : Int32) = nI 8 from rfl, pk_mul, nI_add]) ?_)
    refine pk_lt (8 * i + j) (8 * cs_m n - 4) (fun z => ?_) (fun z => ?_) rfl (pk_sub (a := 8 * cs_m n) (b := 4) (by omega))
    · refine cs_wpad (by omega) hn (by omega) (by omega) (by omega) h8 h9 ?_
      rw [e4]
      refine ⟨pk_in (4 + j) 12 (by omega), nm_e (nm_r (nI_1 j) ?_)⟩
      rw [nI_clamp (by omega)]
      refine hw' _ ?_
      rw [cs_Q, if_pos z]
    · rw [e4]
      refine ⟨pk_in (4 + j) 12 (by omega), nm_e (nm_r (nI_1 j) ?_)⟩
      rw [nI_clamp (by omega)]
      refine hw' _ ?_
      rw [cs_Q, if_neg (by omega)]
      have e8 : 8 * (nI (8 * cs_m n) - 1 - nI (8 * i + j)) = nI (8 * (8 * cs_m n - 1 - (8 * i + j))) := by
        rw [show (1 : Int32) = nI 1 from rfl, pk_sub (by omega), pk_sub (by omega), show (8 : Int32) = nI 8 from rfl, pk_mul]
      rw [e8]
theorem cs_make (hc : c < 8) (hn1 : 1 ≤ n) (hn : n ≤ 27) (hi : i < cs_m n) (h8 : a8 (2 * c) = nI n) (h9 : ∀ j, j < n → a9 (27 * (2 * c) + j) = d j) (h10 : a10 c = nI i) (h11 : a11 c = 0)
    (hN : i + 1 < cs_m n → ∀ gc b14, cs_Cl c n d i b14 → post (fb, fk, gc, a1, a2, a3, a4, a5, a6, a7, a8, a9, upd a10 c (nI (i + 1)), a11, a12, a13, b14, a15, a16, a17, a18, a19, a20, a21, a22, a23, a24, a25, a26, a27, a28, a29))
    (hE : i + 1 = cs_m n → ∀ gc b8 b9 b14, cs_Cl c n d i b14 → post (fb, fk, gc, a1, a2, a3, a4, a5, a6, upd a7 c (a7 c - 1), b8, b9, upd a10 c 0, upd a11 c (a11 c + 1), a12, a13, b14, a15, a16, a17, a18, a19, a20, a21, a22, a23, a24, a25, a26, a27, a28, a29)) :
    wpX_makeCell post (fb, fk, fc, a1, a2, a3, a4, a5, a6, a7, a8, a9, a10, a11, a12, a13, a14, a15, a16, a17, a18, a19, a20, a21, a22, a23, a24, a25, a26, a27, a28, a29) (nI c) := by
  obtain ⟨m1, m2, m3, m4⟩ := cs_mb hn1 hn
  have ec : (nI c).toNatClampNeg = c := nI_clamp (by omega)
  have e2 : (nI (2 * c)).toNatClampNeg = 2 * c := nI_clamp (by omega)
  have h11a : a11 (nI c).toNatClampNeg = 0 := by rw [ec]; exact h11
  have body : ∀ (z0 : Int32), ((nI c <<< ((4 : Int32) &&& 31)) ||| z0) ||| nI i = nI (cs_hd c n i) → ∀ gc, wX_makeCell_59 post (nI c) (nI (2 * c)) (nI (cs_m n)) (nI i) (nI (8 * cs_m n)) (cs_crc (cs_pad d n (8 * cs_m n)) (8 * cs_m n - 4)) z0 (nI c <<< ((4 : Int32) &&& 31)) 0 fb fk gc a1 a2 a3 a4 a5 a6 a7 a8 a9 a10 a11 a12 a13 a14 a15 a16 a17 a18 a19 a20 a21 a22 a23 a24 a25 a26 a27 a28 a29 := by
    intro z0 hz gc
    unfold wX_makeCell_59
    refine ⟨pk_in 0 12 (by omega), nm_r (e' := upd a14 0 (nI (cs_hd c n i))) (by rw [hz]; rfl) ⟨pk_in c 8 hc, nm_r (e' := upd (upd a14 0 (nI (cs_hd c n i))) 1 0) (by rw [h11a]; rfl) ⟨pk_in c 8 hc, nm_r (e' := upd (upd (upd a14 0 (nI (cs_hd c n i))) 1 0) 2 0) (by rw [h11a]; rfl) (cs_whead (nm_e ?_))⟩⟩⟩
    exact cs_mk129 hc hn1 hn hi h8 h9 h10 rfl rfl rfl rfl (fun h b14 hb => hN h gc b14 hb) (fun h b8 b9 b14 hb => hE h gc b8 b9 b14 hb)
  unfold wpX_makeCell
  refine nm_r (pk_mul 2 c) ⟨pk_in (2 * c) 16 (by omega), ?_⟩
  rw [e2, h8]
  refine cs_co (by omega) ⟨pk_in c 8 hc, nm_r (e' := nI i) (by rw [ec, h10]) (nm_r (e' := nI (8 * cs_m n)) (pk_mul 8 _) ?_)⟩
  refine cs_wcheck (by omega) hn (by omega) (by omega) h8 h9 ?_
  refine pk_eq i (cs_m n - 1) (fun e => ?_) (fun e => ?_) rfl (pk_sub (a := cs_m n) (b := 1) (by omega))
  · refine body 8 ?_ _
    rw [cs_hd8 c hc i (by omega), cs_hd, if_pos (by omega)]
  · refine body 0 ?_ _
    rw [cs_hd0 c hc i (by omega), cs_hd, if_neg (by omega)]
end
end
section
/-! the station that sends: which circuit, turned bits (none), the head is right, admitted or not -/
theorem cs_next1 {fb fk fc : Int32} {a1 a2 a3 a4 a5 a6 a7 a8 a9 a10 a11 a12 a13 a14 a15 a16 a17 a18 a19 a20 a21 a22 a23 a24 a25 a26 a27 a28 a29 : Nat → Int32} {post : Int32 → Prop} {s m c : Nat} (hs : s < 4) (hm : m < 8) (hc : c < 8) (h15 : a15 s = nI m) (h1 : ¬ a1 c = 0) (h1' : ∀ j, j < 8 → j ≠ c → a1 j = 0) (h2 : a2 c = nI s) (h7 : a7 c = 1) (hp : post (nI c)) : wpX_nextCircuit post (fb, fk, fc, a1, a2, a3, a4, a5, a6, a7, a8, a9, a10, a11, a12, a13, a14, a15, a16, a17, a18, a19, a20, a21, a22, a23, a24, a25, a26, a27, a28, a29) (nI s) := by
  unfold wpX_nextCircuit
  have key : ∀ k i, i + k = 9 → 1 ≤ i → (∃ t, i ≤ t ∧ t < 9 ∧ (m + t) % 8 = c) → wX_nextCircuit_2 post (nI s) fb fk fc a1 a2 a3 a4 a5 a6 a7 a8 a9 a10 a11 a12 a13 a14 a15 a16 a17 a18 a19 a20 a21 a22 a23 a24 a25 a26 a27 a28 a29 (k + 1) (nI i) := by
    intro k
    induction k with
    | zero =>
      intro i hi h1 ht
      obtain ⟨t, ht1, ht2, _⟩ := ht
      omega
    | succ k ih =>
      intro i hi hi1 ht
      obtain ⟨t, ht1, ht2, ht3⟩ := ht
      have e : a15 (nI s).toNatClampNeg + nI i - (a15 (nI s).toNatClampNeg + nI i) / 8 * 8 = nI ((m + i) % 8) := by
        rw [nI_clamp (by omega), h15, nI_add]
        exact pk_rem (d := 8) (by omega) (by omega) (by omega)
      have hq : (m + i) % 8 < 8 := Nat.mod_lt _ (by omega)
      refine pk_lt 8 i (fun z => absurd z (by omega)) (fun _ => ⟨pk_in s 4 hs, by decide, nm_r e ⟨pk_in _ 8 hq, ?_⟩⟩)
      rw [nI_clamp (show (m + i) % 8 < 2 ^ 31 by omega)]
      by_cases hh : (m + i) % 8 = c
      · rw [hh]
        exact br_f h1 ⟨pk_in c 8 hc, br_t h2 ⟨pk_in c 8 hc, br_f (by rw [h7]; decide) hp⟩⟩
      · refine br_t (h1' _ hq hh) (nm_r (nI_1 i) (ih (i + 1) (by omega) (by omega) ⟨t, ?_, ht2, ht3⟩))
        by_cases e2 : t = i
        · rw [e2] at ht3
          exact absurd ht3 hh
        · omega
  refine ⟨9, key 8 1 rfl (by omega) ?_⟩
  by_cases e : m < c
  · exact ⟨c - m, by omega, by omega, by omega⟩
  · exact ⟨c + 8 - m, by omega, by omega, by omega⟩
theorem cs_wturns {fb fk fc : Int32} {a1 a2 a3 a4 a5 a6 a7 a8 a9 a10 a11 a12 a13 a14 a15 a16 a17 a18 a19 a20 a21 a22 a23 a24 a25 a26 a27 a28 a29 : Nat → Int32} {post : St2 → Prop} {s : Nat} (hs : s < 4) (h16 : a16 s = 0) (hp : post (fb, fk, fc, a1, a2, a3, a4, a5, a6, a7, a8, a9, a10, a11, a12, a13, a14, a15, upd a16 s 0, a17, a18, a19, a20, a21, a22, a23, a24, a25, a26, a27, a28, a29)) : wpX_turnBits post (fb, fk, fc, a1, a2, a3, a4, a5, a6, a7, a8, a9, a10, a11, a12, a13, a14, a15, a16, a17, a18, a19, a20, a21, a22, a23, a24, a25, a26, a27, a28, a29) (nI s) := by
  have ec : (nI s).toNatClampNeg = s := nI_clamp (by omega)
  have b69 : ∀ x2, wX_turnBits_69 post (nI s) x2 fb fk fc a1 a2 a3 a4 a5 a6 a7 a8 a9 a10 a11 a12 a13 a14 a15 a16 a17 a18 a19 a20 a21 a22 a23 a24 a25 a26 a27 a28 a29 := by
    intro x2
    unfold wX_turnBits_69
    rw [ec]
    exact ⟨pk_in s 4 hs, br_f (by rw [h16]; decide) ⟨pk_in s 4 hs, nm_e hp⟩⟩
  have b39 : ∀ x2, wX_turnBits_39 post (nI s) x2 fb fk fc a1 a2 a3 a4 a5 a6 a7 a8 a9 a10 a11 a12 a13 a14 a15 a16 a17 a18 a19 a20 a21 a22 a23 a24 a25 a26 a27 a28 a29 := by
    intro x2
    unfold wX_turnBits_39
    rw [ec]
    exact ⟨pk_in s 4 hs, br_f (by rw [h16]; decide) (b69 x2)⟩
  unfold wpX_turnBits
  refine ⟨pk_in s 4 hs, nm_e ⟨pk_in s 4 hs, ?_⟩⟩
  rw [ec]
  exact br_f (by rw [h16]; decide) ⟨pk_in s 4 hs, br_f (by rw [h16]; decide) (b39 _)⟩
theorem cs_xor (x : Int32) : x ^^^ x = 0 := by
  apply Int32.toBitVec_inj.1
  rw [Int32.toBitVec_xor]
  exact BitVec.xor_self
theorem cs_wmended {fb fk fc : Int32} {a1 a2 a3 a4 a5 a6 a7 a8 a9 a10 a11 a12 a13 a14 a15 a16 a17 a18 a19 a20 a21 a22 a23 a24 a25 a26 a27 a28 a29 : Nat → Int32} {post : Int32 → St2 → Prop} {s c n i : Nat} {d : Nat → Int32} (hs : s < 4) (h14 : cs_Cl c n d i a14) (h18 : a18 s = 0) (hp : post 1 (fb, fk, fc, a1, a2, a3, a4, a5, a6, a7, a8, a9, a10, a11, a12, a13, a14, a15, a16, a17, upd a18 s 0, a19, a20, a21, a22, a23, a24, a25, a26, a27, a28, a29)) : wpX_isMended post (fb, fk, fc, a1, a2, a3, a4, a5, a6, a7, a8, a9, a10, a11, a12, a13, a14, a15, a16, a17, a18, a19, a20, a21, a22, a23, a24, a25, a26, a27, a28, a29) (nI s) := by
  have ec : (nI s).toNatClampNeg = s := nI_clamp (by omega)
  obtain ⟨e0, e1, e2, e3, _⟩ := h14
  unfold wpX_isMended
  refine ⟨pk_in s 4 hs, ?_⟩
  rw [ec]
  refine br_t h18 ?_
  unfold wX_isMended_14
  unfold wpX_wrongOfHead
  refine cs_whead ?_
  rw [e0, e1, e2, e3]
  refine br_t (cs_xor _) ?_
  unfold wX_isMended_32
  rw [ec]
  refine ⟨pk_in s 4 hs, nm_r (e' := upd a18 s 0) rfl ⟨pk_in s 4 hs, br_t pk_us hp⟩⟩
theorem cs_or0 : ((0 : Int32) <<< ((8 : Int32) &&& 31)) ||| 0 = 0 := by decide
theorem cs_drop {fb fk fc : Int32} {a1 a2 a3 a4 a5 a6 a7 a8 a9 a10 a11 a12 a13 a14 a15 a16 a17 a18 a19 a20 a21 a22 a23 a24 a25 a26 a27 a28 a29 : Nat → Int32} {post : St2 → Prop} {c w : Nat} (hc : c < 8) (hw : w < 7) (h1 : a14 1 = 0) (h2 : a14 2 = 0) (hp : post (fb, fk, fc, a1, a2, a3, a4, a5, a6, a7, a8, a9, a10, a11, upd a12 c 0, a13, a14, a15, a16, a17, a18, a19, a20, a21, a22, a23, a24, a25, a26, a27, a28, upd a29 w (a29 w + 1))) : wpX_drop post (fb, fk, fc, a1, a2, a3, a4, a5, a6, a7, a8, a9, a10, a11, a12, a13, a14, a15, a16, a17, a18, a19, a20, a21, a22, a23, a24, a25, a26, a27, a28, a29) (nI c) (nI w) := by
  have ec : (nI c).toNatClampNeg = c := nI_clamp (by omega)
  have ew : (nI w).toNatClampNeg = w := nI_clamp (by omega)
  unfold wpX_drop
  refine ⟨pk_in w 7 hw, pk_in w 7 hw, nm_e ⟨pk_in c 8 hc, nm_r (e' := upd a12 c 0) ?_ ?_⟩⟩
  · rw [ec, h1, h2, cs_or0]
  · rw [ew]
    exact hp
theorem cs_h4 : ∀ c, c < 8 → ∀ r, r < 16 → nI (16 * c + r) >>> ((4 : Int32) &&& 31) = nI c := by decide +kernel
theorem cs_h8a : ∀ c, c < 8 → ∀ r, r < 8 → nI (16 * c + 8 + r) &&& 8 = 8 := by decide +kernel
theorem cs_h8b : ∀ c, c < 8 → ∀ r, r < 8 → nI (16 * c + 0 + r) &&& 8 = 0 := by decide +kernel
theorem cs_h7a : ∀ c, c < 8 → ∀ r, r < 8 → nI (16 * c + 8 + r) &&& 7 = nI r := by decide +kernel
theorem cs_h7b : ∀ c, c < 8 → ∀ r, r < 8 → nI (16 * c + 0 + r) &&& 7 = nI r := by decide +kernel
theorem cs_hdc {c n i : Nat} (hc : c < 8) (hi : i < 4) : nI (cs_hd c n i) >>> ((4 : Int32) &&& 31) = nI c := by
  unfold cs_hd
  rw [Nat.add_assoc]
  refine cs_h4 c hc _ ?_
  split <;> omega
theorem cs_hdl {c n i : Nat} (hc : c < 8) (hi : i < 4) (e : i + 1 = cs_m n) : ¬ nI (cs_hd c n i) &&& 8 = 0 := by
  unfold cs_hd
  rw [if_pos e, cs_h8a c hc i (by omega)]
  decide
theorem cs_hdn {c n i : Nat} (hc : c < 8) (hi : i < 4) (e : ¬ i + 1 = cs_m n) : nI (cs_hd c n i) &&& 8 = 0 := by
  unfold cs_hd
  rw [if_neg e, cs_h8b c hc i (by omega)]
theorem cs_hdk {c n i : Nat} (hc : c < 8) (hi : i < 4) : nI (cs_hd c n i) &&& 7 = nI i := by
  unfold cs_hd
  split
  · exact cs_h7a c hc i (by omega)
  · exact cs_h7b c hc i (by omega)
/-- the cell lies in the queue at to, which was empty -/
def cs_Qd (to : Nat) (a14 a20 : Nat → Int32) : Prop := ∀ t, t < 12 → a20 (72 * to + t) = a14 t
theorem cs_adm157 {fb fk fc : Int32} {a1 a2 a3 a4 a5 a6 a7 a8 a9 a10 a11 a12 a13 a14 a15 a16 a17 a18 a19 a20 a21 a22 a23 a24 a25 a26 a27 a28 a29 : Nat → Int32} {post : St2 → Prop} {to : Nat} (ht : to < 4) (h19 : a19 to = 0) (hp : ∀ b20, cs_Qd to a14 b20 → post (fb, fk, fc, a1, a2, a3, a4, a5, a6, a7, a8, a9, a10, a11, a12, a13, a14, a15, a16, a17, a18, upd a19 to 1, b20, a21, a22, a23, a24, a25, a26, a27, a28, a29)) : ∃ fu, wX_admit_157 post (nI to) fb fk fc fu 0 a1 a2 a3 a4 a5 a6 a7 a8 a9 a10 a11 a12 a13 a14 a15 a16 a17 a18 a19 a20 a21 a22 a23 a24 a25 a26 a27 a28 a29 := by
  have ec : (nI to).toNatClampNeg = to := nI_clamp (by omega)
  refine pk_loop (fun n i s => wX_admit_157 post (nI to) fb fk fc n (nI i) a1 a2 a3 a4 a5 a6 a7 a8 a9 a10 a11 a12 a13 a14 a15 a16 a17 a18 a19 s a21 a22 a23 a24 a25 a26 a27 a28 a29) (fun i s => ∀ t, t < i → s (72 * to + t) = a14 t) 12 0 a20 (by omega) (fun t h => absurd h (by omega)) (fun n s hs => pk_le 12 12 (fun _ => ⟨pk_in to 4 ht, pk_in to 4 ht, nm_r (e' := upd a19 to 1) (by rw [ec, h19]; rfl) (hp s hs)⟩) (fun z => absurd z (by omega)))
    (fun n i s hi hs hw => pk_le 12 i (fun z => absurd z (by omega)) (fun _ => ?_))
  have e : 12 * (6 * nI to + a19 (nI to).toNatClampNeg) + nI i = nI (72 * to + i) := by
    rw [ec, h19, show (12 : Int32) = nI 12 from rfl, show (6 : Int32) = nI 6 from rfl, show (0 : Int32) = nI 0 from rfl, pk_mul, nI_add, pk_mul, nI_add]
    congr 1
    omega
  rw [e]
  refine ⟨pk_in to 4 ht, pk_in i 12 hi, pk_in (72 * to + i) 288 (by omega), nm_e (nm_r (nI_1 i) (hw _ (fun t h => ?_)))⟩
  rw [nI_clamp (show 72 * to + i < 2 ^ 31 by omega), nI_clamp (show i < 2 ^ 31 by omega)]
  by_cases e2 : t = i
  · rw [e2, pk_us]
  · rw [pk_un (by omega)]
    exact hs t (by omega)
/-- the switch takes a cell: too early; of a spoiled frame; queued -/
theorem cs_admit {fb fk fc : Int32} {a1 a2 a3 a4 a5 a6 a7 a8 a9 a10 a11 a12 a13 a14 a15 a16 a17 a18 a19 a20 a21 a22 a23 a24 a25 a26 a27 a28 a29 : Nat → Int32} {post : St2 → Prop} {c n i to g T D K : Nat} {d : Nat → Int32} (hc : c < 8) (hi : i < 4) (ht : to < 4) (hg : g ≤ 8) (hT : T ≤ 40) (hD : D ≤ 1000) (hK : K ≤ 1000)
    (hk : fk = nI K) (h14 : cs_Cl c n d i a14) (h3 : a3 c = nI to) (h4 : a4 c = nI g) (h5 : a5 c = nI T) (h6 : a6 c = nI D) (h19 : a19 to = 0)
    (hE : K + T < D → post (fb, fk, fc, a1, a2, a3, a4, a5, a6, a7, a8, a9, a10, a11, upd a12 c 0, a13, a14, a15, a16, a17, a18, a19, a20, a21, a22, a23, a24, a25, a26, a27, a28, upd a29 0 (a29 0 + 1)))
    (hS : D ≤ K + T → a12 c = 0 → ¬ i + 1 = cs_m n → post (fb, fk, fc, a1, a2, a3, a4, a5, upd a6 c (nI (max K D + g)), a7, a8, a9, a10, a11, upd a12 c 0, a13, a14, a15, a16, a17, a18, a19, a20, a21, a22, a23, a24, a25, a26, a27, a28, upd a29 1 (a29 1 + 1)))
    (hQ : D ≤ K + T → ¬ (a12 c = 0 ∧ ¬ i + 1 = cs_m n) → ∀ b20, cs_Qd to a14 b20 → post (fb, fk, fc, a1, a2, a3, a4, a5, upd a6 c (nI (max K D + g)), a7, a8, a9, a10, a11, a12, a13, a14, a15, a16, a17, a18, upd a19 to 1, b20, a21, a22, a23, a24, a25, a26, a27, a28, a29)) :
    wpX_admit post (fb, fk, fc, a1, a2, a3, a4, a5, a6, a7, a8, a9, a10, a11, a12, a13, a14, a15, a16, a17, a18, a19, a20, a21, a22, a23, a24, a25, a26, a27, a28, a29) := by
  subst hk
  have ec : (nI c).toNatClampNeg = c := nI_clamp (by omega)
  obtain ⟨e0, e1, e2, e3, e4⟩ := h14
  unfold wpX_admit
  refine nm_r (e' := nI c) (by rw [e0]; exact cs_hdc hc hi) ⟨pk_in c 8 hc, pk_in c 8 hc, ?_⟩
  rw [ec, h6, h5]
  refine ek_if (cs_subLe (by omega) (by omega) (by omega)) (fun z => ⟨pk_in c 8 hc, ?_⟩) (fun z => ?_)
  · have b129 : ∀ b6, b6 = upd a6 c (nI (max K D + g)) → ¬ (a12 c = 0 ∧ ¬ i + 1 = cs_m n) → wX_admit_129 post (nI c) fb (nI K) fc a1 a2 a3 a4 a5 b6 a7 a8 a9 a10 a11 a12 a13 a14 a15 a16 a17 a18 a19 a20 a21 a22 a23 a24 a25 a26 a27 a28 a29 := by
      intro b6 hb6 hno
      unfold wX_admit_129
      rw [ec]
      refine ⟨pk_in c 8 hc, nm_r h3 ⟨pk_in to 4 ht, br_f ?_ (cs_adm157 ht h19 (fun b20 hb => ?_))⟩⟩
      · rw [nI_clamp (show to < 2 ^ 31 by omega), h19]
        decide
      · rw [hb6]
        exact hQ z hno b20 hb
    have b92 : ∀ b6 z0, b6 = upd a6 c (nI (max K D + g)) → (z0 = 0 ↔ ¬ i + 1 = cs_m n) → wX_admit_92 post (nI c) z0 fb (nI K) fc a1 a2 a3 a4 a5 b6 a7 a8 a9 a10 a11 a12 a13 a14 a15 a16 a17 a18 a19 a20 a21 a22 a23 a24 a25 a26 a27 a28 a29 := by
      intro b6 z0 hb6 hz0
      unfold wX_admit_92
      rw [ec, e1, e2, cs_or0]
      refine ⟨pk_in c 8 hc, br_c (fun q => br_c (fun q2 => ?_) (fun q2 => ?_)) (fun q => ?_)⟩
      · refine cs_drop (w := 1) hc (by omega) e1 e2 ?_
        rw [hb6]
        exact hS z q (hz0.mp q2)
      · exact b129 b6 hb6 (fun hh => q2 (hz0.mpr hh.2))
      · exact b129 b6 hb6 (fun hh => q hh.1)
    have b67 : ∀ z0, z0 = nI (max K D) → wX_admit_67 post (nI c) z0 (nI c) fb (nI K) fc a1 a2 a3 a4 a5 a6 a7 a8 a9 a10 a11 a12 a13 a14 a15 a16 a17 a18 a19 a20 a21 a22 a23 a24 a25 a26 a27 a28 a29 := by
      intro z0 hz0
      unfold wX_admit_67
      refine ⟨pk_in c 8 hc, pk_in c 8 hc, nm_r (e' := upd a6 c (nI (max K D + g))) ?_ ?_⟩
      · rw [ec, h4, hz0, nI_add]
      · rw [e0]
        by_cases q : i + 1 = cs_m n
        · exact br_f (cs_hdl hc hi q) (b92 _ 1 rfl ⟨fun w => absurd w (by decide), fun w => absurd q w⟩)
        · exact br_t (cs_hdn hc hi q) (b92 _ 0 rfl ⟨fun _ => q, fun _ => rfl⟩)
    refine pk_le K D (fun q => ⟨pk_in c 8 hc, b67 _ ?_⟩) (fun q => b67 _ ?_)
    · rw [show max K D = D by omega]
    · rw [show max K D = K by omega]
  · refine cs_drop (w := 0) hc (by omega) e1 e2 ?_
    exact hE (by omega)
end
section
/-! the picture: one circuit c from fr to to, one frame of n bytes d under way, K the clock at its post -/
def cs_due (K g : Nat) : Nat → Nat
  | 0 => 0
  | i + 1 => max (K + i + 1) (cs_due K g i) + g
def cs_er (K T g : Nat) : Nat → Bool
  | 0 => false
  | i + 1 => cs_er K T g i || decide (K + i + 1 + T < cs_due K g i)
theorem cs_dueB {K g : Nat} (hg : g ≤ 8) (i : Nat) : cs_due K g i ≤ K + 9 * i := by
  induction i with
  | zero => exact Nat.zero_le _
  | succ i ih =>
    show max (K + i + 1) (cs_due K g i) + g ≤ K + 9 * (i + 1)
    omega
def cs_Pm (c fr to g T n K : Nat) : Prop := c < 8 ∧ fr < 4 ∧ to < 4 ∧ g ≤ 8 ∧ T ≤ 40 ∧ 1 ≤ n ∧ n ≤ 27 ∧ K ≤ 200
def cs_X (c fr to g T : Nat) (a1 a2 a3 a4 a5 : Nat → Int32) : Prop := a1 c = 1 ∧ (∀ j, j < 8 → j ≠ c → a1 j = 0) ∧ a2 c = nI fr ∧ a3 c = nI to ∧ a4 c = nI g ∧ a5 c = nI T
def cs_Y (a15 a16 a18 : Nat → Int32) : Prop := (∀ s, s < 4 → ∃ m, m < 8 ∧ a15 s = nI m) ∧ (∀ s, s < 4 → a16 s = 0) ∧ (∀ s, s < 4 → a18 s = 0)
def cs_Fr (c n : Nat) (d : Nat → Int32) (i : Nat) (a7 a8 a9 a10 a11 : Nat → Int32) : Prop := a7 c = 1 ∧ a8 (2 * c) = nI n ∧ (∀ j, j < n → a9 (27 * (2 * c) + j) = d j) ∧ a10 c = nI i ∧ a11 c = 0
def cs_Du (K g c i : Nat) (e : Bool) (a6 a12 : Nat → Int32) : Prop := (∃ D, D ≤ K + 9 * i ∧ a6 c = nI D ∧ (e = false → D = cs_due K g i)) ∧ a12 c = (if e = true then 0 else -1)
def cs_Ct (i : Nat) (e : Bool) (a29 : Nat → Int32) : Prop := a29 4 = 0 ∧ (e = true → ∃ v, 0 < v ∧ v ≤ i ∧ a29 0 = nI v) ∧ (e = false → a29 0 = 0)
def cs_Kp (c n : Nat) (d : Nat → Int32) (q i : Nat) (e : Bool) (a25 a26 a27 a28 : Nat → Int32) : Prop := a25 c = nI q ∧ a26 c = 0 ∧ (q = 0 ∨ a27 c = 0) ∧ (e = false → q = i ∧ ∀ t, t < 8 * i → a28 (32 * c + t) = cs_Q d n (8 * cs_m n) t) ∧ (e = true → q < i)
def cs_one (to : Nat) (a19 : Nat → Int32) : Prop := a19 to = 1 ∧ ∀ s, s < 4 → s ≠ to → a19 s = 0
/-- ahead of tick i; k: the clock -/
def cs_I (c fr to g T n K : Nat) (d : Nat → Int32) (i k : Nat) (fb fk fc : Int32) (a1 a2 a3 a4 a5 a6 a7 a8 a9 a10 a11 a12 a13 a14 a15 a16 a17 a18 a19 a20 a21 a22 a23 a24 a25 a26 a27 a28 a29 : Nat → Int32) : Prop :=
  fb = 1 ∧ fk = nI k ∧ cs_X c fr to g T a1 a2 a3 a4 a5 ∧ cs_Y a15 a16 a18 ∧ (∀ s, s < 4 → a19 s = 0) ∧ (∀ s, s < 4 → a21 s = 0) ∧ cs_Fr c n d i a7 a8 a9 a10 a11 ∧ cs_Du K g c i (cs_er K T g i) a6 a12 ∧ cs_Ct i (cs_er K T g i) a29 ∧ ∃ q, cs_Kp c n d q i (cs_er K T g i) a25 a26 a27 a28
/-- cell i sent, nothing delivered yet -/
def cs_M (c fr to g T n K : Nat) (d : Nat → Int32) (i k : Nat) (fb fk fc : Int32) (a1 a2 a3 a4 a5 a6 a7 a8 a9 a10 a11 a12 a13 a14 a15 a16 a17 a18 a19 a20 a21 a22 a23 a24 a25 a26 a27 a28 a29 : Nat → Int32) : Prop :=
  fb = 1 ∧ fk = nI k ∧ cs_X c fr to g T a1 a2 a3 a4 a5 ∧ cs_Y a15 a16 a18 ∧ (∀ s, s < 4 → a21 s = 0) ∧ ((i + 1 < cs_m n → cs_Fr c n d (i + 1) a7 a8 a9 a10 a11) ∧ (i + 1 = cs_m n → a7 c = 0)) ∧ (∃ q, cs_Kp c n d q i (cs_er K T g i) a25 a26 a27 a28) ∧ cs_Ct (i + 1) (cs_er K T g (i + 1)) a29 ∧
  (((∀ s, s < 4 → a19 s = 0) ∧ cs_er K T g (i + 1) = true ∧ cs_Du K g c (i + 1) true a6 a12) ∨
   (cs_one to a19 ∧ (∃ x, cs_Cl c n d i x ∧ cs_Qd to x a20) ∧ ((cs_er K T g i = false ∧ cs_er K T g (i + 1) = false ∧ cs_Du K g c (i + 1) false a6 a12) ∨ (cs_er K T g i = true ∧ cs_er K T g (i + 1) = true ∧ i + 1 = cs_m n))))
theorem cs_make' {fb fk fc : Int32} {a1 a2 a3 a4 a5 a6 a7 a8 a9 a10 a11 a12 a13 a14 a15 a16 a17 a18 a19 a20 a21 a22 a23 a24 a25 a26 a27 a28 a29 : Nat → Int32} {post : St2 → Prop} {c n i : Nat} {d : Nat → Int32} (hc : c < 8) (hn1 : 1 ≤ n) (hn : n ≤ 27) (hi : i < cs_m n) (hF : cs_Fr c n d i a7 a8 a9 a10 a11)
    (h : ∀ gc b7 b8 b9 b10 b11 b14, cs_Cl c n d i b14 → ((i + 1 < cs_m n → cs_Fr c n d (i + 1) b7 b8 b9 b10 b11) ∧ (i + 1 = cs_m n → b7 c = 0)) → post (fb, fk, gc, a1, a2, a3, a4, a5, a6, b7, b8, b9, b10, b11, a12, a13, b14, a15, a16, a17, a18, a19, a20, a21, a22, a23, a24, a25, a26, a27, a28, a29)) : wpX_makeCell post (fb, fk, fc, a1, a2, a3, a4, a5, a6, a7, a8, a9, a10, a11, a12, a13, a14, a15, a16, a17, a18, a19, a20, a21, a22, a23, a24, a25, a26, a27, a28, a29) (nI c) := by
  obtain ⟨h7, h8, h9, h10, h11⟩ := hF
  refine cs_make hc hn1 hn hi h8 h9 h10 h11 (fun hN gc b14 hb => h _ _ _ _ _ _ _ hb ⟨fun _ => ⟨h7, h8, h9, pk_us, h11⟩, fun z => absurd z (by omega)⟩) (fun hE gc b8 b9 b14 hb => h _ _ _ _ _ _ _ hb ⟨fun z => absurd z (by omega), fun _ => ?_⟩)
  rw [pk_us, h7]
  rfl
theorem cs_Xidle {c fr to g T s : Nat} {a1 a2 a3 a4 a5 a7 a15 a16 a18 : Nat → Int32} (hf : fr < 4) (hX : cs_X c fr to g T a1 a2 a3 a4 a5) (hY : cs_Y a15 a16 a18) (hs : s < 4) (hne : s ≠ fr) : cs_idle a1 a2 a7 a15 s := by
  obtain ⟨_, h1, h2, _⟩ := hX
  refine ⟨hY.1 s hs, fun j hj => ?_⟩
  by_cases e : j = c
  · refine Or.inr (Or.inl ?_)
    rw [e, h2]
    exact fun z => hne ((nI_eq (by omega) (by omega)).mp z).symm
  · exact Or.inl (h1 j hj e)
theorem cs_sendI {fb fk fc : Int32} {a1 a2 a3 a4 a5 a6 a7 a8 a9 a10 a11 a12 a13 a14 a15 a16 a17 a18 a19 a20 a21 a22 a23 a24 a25 a26 a27 a28 a29 : Nat → Int32} {post : St2 → Prop} {c fr to g T n K i k : Nat} {d : Nat → Int32} (hP : cs_Pm c fr to g T n K) (hi : i < cs_m n) (hk : k = K + i + 1) (hI : cs_I c fr to g T n K d i k fb fk fc a1 a2 a3 a4 a5 a6 a7 a8 a9 a10 a11 a12 a13 a14 a15 a16 a17 a18 a19 a20 a21 a22 a23 a24 a25 a26 a27 a28 a29) (hp : ∀ (gb gk gc : Int32) (b1 b2 b3 b4 b5 b6 b7 b8 b9 b10 b11 b12 b13 b14 b15 b16 b17 b18 b19 b20 b21 b22 b23 b24 b25 b26 b27 b28 b29 : Nat → Int32), cs_M c fr to g T n K d i k gb gk gc b1 b2 b3 b4 b5 b6 b7 b8 b9 b10 b11 b12 b13 b14 b15 b16 b17 b18 b19 b20 b21 b22 b23 b24 b25 b26 b27 b28 b29 → post (gb, gk, gc, b1, b2, b3, b4, b5, b6, b7, b8, b9, b10, b11, b12, b13, b14, b15, b16, b17, b18, b19, b20, b21, b22, b23, b24, b25, b26, b27, b28, b29)) : wpX_sendFrom post (fb, fk, fc, a1, a2, a3, a4, a5, a6, a7, a8, a9, a10, a11, a12, a13, a14, a15, a16, a17, a18, a19, a20, a21, a22, a23, a24, a25, a26, a27, a28, a29) (nI fr) := by
  obtain ⟨hc, hfr, hto, hg, hT, hn1, hn, hK⟩ := hP
  obtain ⟨m1, m2, m3, m4⟩ := cs_mb hn1 hn
  obtain ⟨eb, ek, hX, hY, h19, h21, hF, hD, hC, hKp⟩ := hI
  obtain ⟨x1, x1', x2, x3, x4, x5⟩ := id hX
  obtain ⟨y15, y16, y18⟩ := id hY
  obtain ⟨m, hm, e15⟩ := y15 fr hfr
  obtain ⟨⟨D, hD1, hD2, hD3⟩, hD4⟩ := hD
  have ef : (nI fr).toNatClampNeg = fr := nI_clamp (by omega)
  unfold wpX_sendFrom
  refine cs_next1 hfr hm hc e15 (by rw [x1]; exact cs_10) x1' x2 hF.1 (br_t (nI_pos' (by omega)) ⟨pk_in fr 4 hfr, nm_e ?_⟩)
  rw [ef]
  have hY' : ∀ v w, cs_Y (upd a15 fr (nI c)) (upd a16 fr v) (upd a18 fr w) → True := fun _ _ _ => trivial
  have hYn : cs_Y (upd a15 fr (nI c)) (upd a16 fr 0) (upd a18 fr 0) := by
    refine ⟨fun s hs => ?_, cs_us y16 rfl, cs_us y18 rfl⟩
    by_cases e : s = fr
    · exact ⟨c, hc, by rw [e, pk_us]⟩
    · rw [pk_un e]
      exact y15 s hs
  refine cs_make' hc hn1 hn hi hF (fun gc b7 b8 b9 b10 b11 b14 hcl hfr2 => ?_)
  refine cs_wturns hfr (y16 fr hfr) (cs_wmended hfr hcl (y18 fr hfr) (br_f (by decide) ?_))
  have hue : cs_er K T g (i + 1) = (cs_er K T g i || decide (K + i + 1 + T < cs_due K g i)) := rfl
  obtain ⟨hC4, hCt, hCf⟩ := hC
  refine cs_admit (K := k) hc (by omega) hto hg hT (show D ≤ 1000 by omega) (by omega) ek hcl x3 x4 x5 hD2 (h19 to hto) (fun z => hp _ _ _ _ _ _ _ _ _ _ _ _ _ _ _ _ _ _ _ _ _ _ _ _ _ _ _ _ _ _ _ _ ?_) (fun z z2 z3 => hp _ _ _ _ _ _ _ _ _ _ _ _ _ _ _ _ _ _ _ _ _ _ _ _ _ _ _ _ _ _ _ _ ?_) (fun z z2 b20 hq => hp _ _ _ _ _ _ _ _ _ _ _ _ _ _ _ _ _ _ _ _ _ _ _ _ _ _ _ _ _ _ _ _ ?_)
  · have er1 : cs_er K T g (i + 1) = true := by
      rw [hue]
      cases he : cs_er K T g i with
      | true => rfl
      | false =>
        have := hD3 he
        simp only [Bool.false_or, decide_eq_true_eq]
        omega
    refine ⟨eb, ek, hX, hYn, h21, hfr2, hKp, ?_, Or.inl ⟨h19, er1, ⟨D, by omega, hD2, fun w => absurd w (by decide)⟩, ?_⟩⟩
    · rw [er1]
      refine ⟨by rw [pk_un (by decide)]; exact hC4, fun _ => ?_, fun w => absurd w (by decide)⟩
      cases he : cs_er K T g i with
      | true =>
        obtain ⟨v, v1, v2, v3⟩ := hCt he
        exact ⟨v + 1, by omega, by omega, by rw [pk_us, v3, nI_1]⟩
      | false => exact ⟨1, by omega, by omega, by rw [pk_us, hCf he]; rfl⟩
    · rw [pk_us, if_pos rfl]
  · have he : cs_er K T g i = true := by
      cases he : cs_er K T g i with
      | true => rfl
      | false =>
        rw [he, z2] at hD4
        exact absurd hD4 (by decide)
    have er1 : cs_er K T g (i + 1) = true := by
      rw [hue, he]
      rfl
    refine ⟨eb, ek, hX, hYn, h21, hfr2, hKp, ?_, Or.inl ⟨h19, er1, ⟨max k D + g, by omega, by rw [pk_us], fun w => absurd w (by decide)⟩, ?_⟩⟩
    · rw [er1]
      obtain ⟨v, v1, v2, v3⟩ := hCt he
      exact ⟨by rw [pk_un (by decide)]; exact hC4, fun _ => ⟨v, v1, by omega, by rw [pk_un (by decide)]; exact v3⟩, fun w => absurd w (by decide)⟩
    · rw [pk_us, if_pos rfl]
  · have h19' : cs_one to (upd a19 to 1) := ⟨pk_us, fun s hs hne => by rw [pk_un hne]; exact h19 s hs⟩
    cases he : cs_er K T g i with
    | false =>
      have eD := hD3 he
      have er1 : cs_er K T g (i + 1) = false := by
        rw [hue, he]
        simp only [Bool.false_or, decide_eq_false_iff_not]
        omega
      rw [he] at hD4
      refine ⟨eb, ek, hX, hYn, h21, hfr2, hKp, ?_, Or.inr ⟨h19', ⟨b14, hcl, hq⟩, Or.inl ⟨he, er1, ⟨max k D + g, by omega, by rw [pk_us], fun _ => ?_⟩, hD4⟩⟩⟩
      · rw [er1]
        exact ⟨hC4, fun w => absurd w (by decide), fun _ => hCf he⟩
      · rw [hk, eD]
        rfl
    | true =>
      have er1 : cs_er K T g (i + 1) = true := by
        rw [hue, he]
        rfl
      rw [he] at hD4
      have el : i + 1 = cs_m n := by
        by_cases w : i + 1 = cs_m n
        · exact w
        · exact absurd ⟨hD4, w⟩ z2
      refine ⟨eb, ek, hX, hYn, h21, hfr2, hKp, ?_, Or.inr ⟨h19', ⟨b14, hcl, hq⟩, Or.inr ⟨he, er1, el⟩⟩⟩
      rw [er1]
      obtain ⟨v, v1, v2, v3⟩ := hCt he
      exact ⟨hC4, fun _ => ⟨v, v1, by omega, v3⟩, fun w => absurd w (by decide)⟩
end
section
/-! four bytes put together again (rows of BITS.to-paste, renamed) -/
def cb_t (x : Int32) (i : Nat) : Bool := x.toBitVec.getLsbD i
theorem cb_ext {x y : Int32} (h : ∀ i, i < 32 → cb_t x i = cb_t y i) : x = y := Int32.toBitVec_inj.mp (BitVec.eq_of_getLsbD_eq (fun i hi => h i hi))
theorem cb_or (x y : Int32) (i : Nat) : cb_t (x ||| y) i = (cb_t x i || cb_t y i) := by unfold cb_t; rw [Int32.toBitVec_or, BitVec.getLsbD_or]
theorem cb_and (x y : Int32) (i : Nat) : cb_t (x &&& y) i = (cb_t x i && cb_t y i) := by unfold cb_t; rw [Int32.toBitVec_and, BitVec.getLsbD_and]
theorem cb_big {x : Int32} {i : Nat} (h : 32 ≤ i) : cb_t x i = false := BitVec.getLsbD_of_ge _ _ h
theorem cb_255 (i : Nat) : cb_t 255 i = decide (i < 8) := by
  rcases Nat.lt_or_ge i 32 with h | h
  · exact (by decide +kernel : ∀ i, i < 32 → cb_t 255 i = decide (i < 8)) i h
  · rw [cb_big h, decide_eq_false (by omega)]
theorem cb_0 (i : Nat) : cb_t 0 i = false := BitVec.getLsbD_zero
theorem cb_sl : ∀ n, n < 32 → ((nI n &&& 31).toBitVec.smod 32).toNat = n := by decide +kernel
theorem cb_su : ∀ n, n < 32 → (((nI n).toUInt32 &&& Int32.toUInt32 31).toBitVec % 32).toNat = n := by decide +kernel
theorem cb_shl (n : Nat) (hn : n < 32) (x : Int32) {i : Nat} (hi : i < 32) : cb_t (x <<< (nI n &&& 31)) i = (decide (n ≤ i) && cb_t x (i - n)) := by
  unfold cb_t
  rw [Int32.toBitVec_shiftLeft]
  show (x.toBitVec <<< ((nI n &&& 31).toBitVec.smod 32).toNat).getLsbD i = _
  rw [cb_sl n hn, BitVec.getLsbD_shiftLeft]
  rcases Nat.lt_or_ge i n with h | h
  · simp [h, Nat.not_le.mpr h]
  · simp [hi, h, Nat.not_lt.mpr h]
theorem cb_ushr (n : Nat) (hn : n < 32) (x : Int32) (i : Nat) : cb_t ((x.toUInt32 >>> ((nI n).toUInt32 &&& Int32.toUInt32 31)).toInt32) i = cb_t x (n + i) := by
  show (x.toUInt32 >>> ((nI n).toUInt32 &&& Int32.toUInt32 31)).toBitVec.getLsbD i = x.toUInt32.toBitVec.getLsbD (n + i)
  rw [UInt32.toBitVec_shiftRight]
  show (x.toUInt32.toBitVec >>> (((nI n).toUInt32 &&& Int32.toUInt32 31).toBitVec % 32).toNat).getLsbD i = _
  rw [cb_su n hn, BitVec.getLsbD_ushiftRight]
theorem cb_shl8 (x : Int32) {i : Nat} (hi : i < 32) : cb_t (x <<< ((8 : Int32) &&& 31)) i = (decide (8 ≤ i) && cb_t x (i - 8)) := cb_shl 8 (by omega) x hi
def cs_by (S : Int32) (n : Nat) : Int32 := (S.toUInt32 >>> ((nI n).toUInt32 &&& Int32.toUInt32 31)).toInt32 &&& 255
theorem cb_by (S : Int32) {n : Nat} (hn : n < 32) (i : Nat) : cb_t (cs_by S n) i = (cb_t S (n + i) && decide (i < 8)) := by
  unfold cs_by
  rw [cb_and, cb_ushr n hn, cb_255]
theorem cs_join (S : Int32) : (((((((((0 : Int32) <<< ((8 : Int32) &&& 31)) ||| cs_by S 24) <<< ((8 : Int32) &&& 31)) ||| cs_by S 16) <<< ((8 : Int32) &&& 31)) ||| cs_by S 8) <<< ((8 : Int32) &&& 31)) ||| cs_by S 0) = S := by
  apply cb_ext
  intro i hi
  rw [cb_or, cb_shl8 _ hi, cb_or, cb_shl8 _ (show i - 8 < 32 by omega), cb_or, cb_shl8 _ (show i - 8 - 8 < 32 by omega), cb_or, cb_shl8 _ (show i - 8 - 8 - 8 < 32 by omega), cb_0, cb_by S (by omega), cb_by S (by omega), cb_by S (by omega), cb_by S (by omega)]
  by_cases h1 : i < 8
  · rw [decide_eq_false (show ¬ 8 ≤ i by omega), decide_eq_true h1, Nat.zero_add]
    simp
  · by_cases h2 : i < 16
    · rw [decide_eq_true (show 8 ≤ i by omega), decide_eq_false (show ¬ 8 ≤ i - 8 by omega), decide_eq_false h1, decide_eq_true (show i - 8 < 8 by omega), show 8 + (i - 8) = i by omega]
      simp
    · by_cases h3 : i < 24
      · rw [decide_eq_true (show 8 ≤ i by omega), decide_eq_true (show 8 ≤ i - 8 by omega), decide_eq_false (show ¬ 8 ≤ i - 8 - 8 by omega), decide_eq_false h1, decide_eq_false (show ¬ i - 8 < 8 by omega), decide_eq_true (show i - 8 - 8 < 8 by omega), show 16 + (i - 8 - 8) = i by omega]
        simp
      · rw [decide_eq_true (show 8 ≤ i by omega), decide_eq_true (show 8 ≤ i - 8 by omega), decide_eq_true (show 8 ≤ i - 8 - 8 by omega), decide_eq_false h1, decide_eq_false (show ¬ i - 8 < 8 by omega), decide_eq_false (show ¬ i - 8 - 8 < 8 by omega), decide_eq_true (show i - 8 - 8 - 8 < 8 by omega), show 24 + (i - 8 - 8 - 8) = i by omega]
        simp
/-- the sum of the first t bytes of the check number -/
def cs_sm (d : Nat → Int32) (n A : Nat) : Nat → Int32
  | 0 => 0
  | t + 1 => (cs_sm d n A t <<< ((8 : Int32) &&& 31)) ||| cs_Q d n A (A - 4 + t)
theorem cs_sm4 {d : Nat → Int32} {n A : Nat} (hA : 4 ≤ A) : cs_sm d n A 4 = cs_crc (cs_pad d n A) (A - 4) := by
  have q : ∀ t, t < 4 → cs_Q d n A (A - 4 + t) = cs_by (cs_crc (cs_pad d n A) (A - 4)) (8 * (3 - t)) := by
    intro t ht
    rw [cs_Q, if_neg (by omega), cs_by, show A - 1 - (A - 4 + t) = 3 - t by omega]
  show (((((((((0 : Int32) <<< ((8 : Int32) &&& 31)) ||| cs_Q d n A (A - 4 + 0)) <<< ((8 : Int32) &&& 31)) ||| cs_Q d n A (A - 4 + 1)) <<< ((8 : Int32) &&& 31)) ||| cs_Q d n A (A - 4 + 2)) <<< ((8 : Int32) &&& 31)) ||| cs_Q d n A (A - 4 + 3)) = _
  rw [q 0 (by omega), q 1 (by omega), q 2 (by omega), q 3 (by omega)]
  exact cs_join _
end
section
/-! stations: a frame put together is right, it is taken in; a cell comes in -/
theorem cs_Qn {d : Nat → Int32} {n A : Nat} (hA : n + 5 ≤ A) : cs_Q d n A (A - 5) = nI n := by
  rw [cs_Q, if_pos (by omega), cs_pad, if_neg (by omega), if_pos rfl]
theorem cs_Qd' {d : Nat → Int32} {n A t : Nat} (hA : n + 5 ≤ A) (ht : t < n) : cs_Q d n A t = d t := by
  rw [cs_Q, if_pos (by omega), cs_pad, if_pos ht]
section
variable {fb fk fc : Int32} {a1 a2 a3 a4 a5 a6 a7 a8 a9 a10 a11 a12 a13 a14 a15 a16 a17 a18 a19 a20 a21 a22 a23 a24 a25 a26 a27 a28 a29 : Nat → Int32} {c n to : Nat} {d : Nat → Int32}
theorem cs_right {post : Int32 → St2 → Prop} (hc : c < 8) (hn1 : 1 ≤ n) (hn : n ≤ 27) (h25 : a25 c = nI (cs_m n)) (h26 : a26 c = 0) (h28 : ∀ t, t < 8 * cs_m n → a28 (32 * c + t) = cs_Q d n (8 * cs_m n) t) (hp : ∀ gc, post 1 (fb, fk, gc, a1, a2, a3, a4, a5, a6, a7, a8, a9, a10, a11, a12, a13, a14, a15, a16, a17, a18, a19, a20, a21, a22, a23, a24, a25, a26, a27, a28, a29)) : wpX_isRight post (fb, fk, fc, a1, a2, a3, a4, a5, a6, a7, a8, a9, a10, a11, a12, a13, a14, a15, a16, a17, a18, a19, a20, a21, a22, a23, a24, a25, a26, a27, a28, a29) (nI c) := by
  obtain ⟨m1, m2, m3, m4⟩ := cs_mb hn1 hn
  have ec : (nI c).toNatClampNeg = c := nI_clamp (by omega)
  have eix : nI (32 * c) + nI (8 * cs_m n) - 5 = nI (32 * c + (8 * cs_m n - 5)) := by
    rw [nI_add, show (5 : Int32) = nI 5 from rfl, pk_sub (by omega)]
    congr 1
    omega
  unfold wpX_isRight
  refine nm_r (pk_mul 32 c) ⟨pk_in c 8 hc, nm_r (e' := nI (8 * cs_m n)) (by rw [ec, h25]; exact pk_mul 8 _) ?_⟩
  rw [eix]
  refine ⟨pk_in (32 * c + (8 * cs_m n - 5)) 256 (by omega), nm_r (e' := nI n) (by rw [nI_clamp (by omega), h28 _ (by omega), cs_Qn m3]) ⟨pk_in c 8 hc, ?_⟩⟩
  rw [ec]
  refine br_t h26 (pk_lt n 1 (fun z => absurd z (by omega)) (fun _ => pk_lt 27 n (fun z => absurd z (by omega)) (fun _ => cs_co (by omega) ⟨pk_in c 8 hc, br_t h25.symm ?_⟩)))
  have l108 : ∃ fu, wX_isRight_108 post (nI (32 * c)) (nI (8 * cs_m n)) fb fk (cs_crc (cs_pad d n (8 * cs_m n)) (8 * cs_m n - 4)) a1 a2 a3 a4 a5 a6 a7 a8 a9 a10 a11 a12 a13 a14 a15 a16 a17 a18 a19 a20 a21 a22 a23 a24 a25 a26 a27 a28 a29 fu 0 (nI (8 * cs_m n - 4)) := by
    refine pk_loop (σ := Unit) (fun u j _ => wX_isRight_108 post (nI (32 * c)) (nI (8 * cs_m n)) fb fk (cs_crc (cs_pad d n (8 * cs_m n)) (8 * cs_m n - 4)) a1 a2 a3 a4 a5 a6 a7 a8 a9 a10 a11 a12 a13 a14 a15 a16 a17 a18 a19 a20 a21 a22 a23 a24 a25 a26 a27 a28 a29 u (cs_sm d n (8 * cs_m n) j) (nI (8 * cs_m n - 4 + j))) (fun _ _ => True) 4 0 () (by omega) trivial (fun u _ _ => pk_le (8 * cs_m n) (8 * cs_m n - 4 + 4) (fun _ => br_t (cs_sm4 (by omega)) (hp _)) (fun z => absurd z (by omega))) (fun u j _ hj _ hw => pk_le (8 * cs_m n) (8 * cs_m n - 4 + j) (fun z => absurd z (by omega)) (fun _ => ?_))
    have hw' := hw () trivial
    rw [nI_add]
    refine ⟨pk_in (32 * c + (8 * cs_m n - 4 + j)) 256 (by omega), nm_r (e' := cs_sm d n (8 * cs_m n) (j + 1)) ?_ (nm_r (nI_1 _) hw')⟩
    rw [nI_clamp (by omega), h28 _ (by omega)]
    rfl
  refine pk_loop (σ := Unit) (fun u j _ => wX_isRight_73 post (nI (32 * c)) (nI (8 * cs_m n)) u (nI j) fb fk (cs_crc (cs_pad d n (8 * cs_m n)) j) a1 a2 a3 a4 a5 a6 a7 a8 a9 a10 a11 a12 a13 a14 a15 a16 a17 a18 a19 a20 a21 a22 a23 a24 a25 a26 a27 a28 a29) (fun _ _ => True) (8 * cs_m n - 4) 0 () (by omega) trivial
    (fun u _ _ => pk_le (8 * cs_m n - 4) (8 * cs_m n - 4) (fun _ => nm_r (pk_sub (a := 8 * cs_m n) (b := 4) (by omega)) l108) (fun z => absurd z (by omega)) (pk_sub (a := 8 * cs_m n) (b := 4) (by omega)))
    (fun u j _ hj _ hw => pk_le (8 * cs_m n - 4) j (fun z => absurd z (by omega)) (fun _ => ?_) (pk_sub (a := 8 * cs_m n) (b := 4) (by omega)))
  have hw' : wX_isRight_73 post (nI (32 * c)) (nI (8 * cs_m n)) u (nI (j + 1)) fb fk (cs_feed (cs_crc (cs_pad d n (8 * cs_m n)) j) (cs_pad d n (8 * cs_m n) j)) a1 a2 a3 a4 a5 a6 a7 a8 a9 a10 a11 a12 a13 a14 a15 a16 a17 a18 a19 a20 a21 a22 a23 a24 a25 a26 a27 a28 a29 := hw () trivial
  rw [nI_add, nI_clamp (show 32 * c + j < 2 ^ 31 by omega), h28 j (by omega), cs_Q, if_pos hj]
  exact ⟨pk_in (32 * c + j) 256 (by omega), cs_wfeed (nm_r (nI_1 j) hw')⟩
theorem cs_wrong {post : Int32 → St2 → Prop} {q : Nat} (hc : c < 8) (hq1 : 1 ≤ q) (hq : q ≤ 4) (h25 : a25 c = nI q) (h26 : ¬ a26 c = 0) (hp : post 0 (fb, fk, fc, a1, a2, a3, a4, a5, a6, a7, a8, a9, a10, a11, a12, a13, a14, a15, a16, a17, a18, a19, a20, a21, a22, a23, a24, a25, a26, a27, a28, a29)) : wpX_isRight post (fb, fk, fc, a1, a2, a3, a4, a5, a6, a7, a8, a9, a10, a11, a12, a13, a14, a15, a16, a17, a18, a19, a20, a21, a22, a23, a24, a25, a26, a27, a28, a29) (nI c) := by
  have ec : (nI c).toNatClampNeg = c := nI_clamp (by omega)
  have eix : nI (32 * c) + nI (8 * q) - 5 = nI (32 * c + (8 * q - 5)) := by
    rw [nI_add, show (5 : Int32) = nI 5 from rfl, pk_sub (by omega)]
    congr 1
    omega
  unfold wpX_isRight
  refine nm_r (pk_mul 32 c) ⟨pk_in c 8 hc, nm_r (e' := nI (8 * q)) (by rw [ec, h25]; exact pk_mul 8 _) ?_⟩
  rw [eix]
  refine ⟨pk_in (32 * c + (8 * q - 5)) 256 (by omega), nm_e ⟨pk_in c 8 hc, ?_⟩⟩
  rw [ec]
  exact br_f h26 hp
theorem cs_takein {post : St2 → Prop} (hc : c < 8) (ht : to < 4) (hn1 : 1 ≤ n) (hn : n ≤ 27) (h21 : a21 to = 0) (h25 : a25 c = nI (cs_m n)) (h28 : ∀ t, t < 8 * cs_m n → a28 (32 * c + t) = cs_Q d n (8 * cs_m n) t)
    (hp : ∀ b24, (∀ j, j < n → b24 (108 * to + j) = d j) → post (fb, fk, fc, a1, a2, a3, a4, a5, a6, a7, a8, a9, a10, a11, a12, a13, a14, a15, a16, a17, a18, a19, a20, upd a21 to 1, upd a22 (4 * to) (nI c), upd a23 (4 * to) (nI n), b24, a25, a26, a27, a28, a29)) : wpX_takeIn post (fb, fk, fc, a1, a2, a3, a4, a5, a6, a7, a8, a9, a10, a11, a12, a13, a14, a15, a16, a17, a18, a19, a20, a21, a22, a23, a24, a25, a26, a27, a28, a29) (nI c) (nI to) := by
  obtain ⟨m1, m2, m3, m4⟩ := cs_mb hn1 hn
  have ec : (nI c).toNatClampNeg = c := nI_clamp (by omega)
  have et : (nI to).toNatClampNeg = to := nI_clamp (by omega)
  have ef : (nI (4 * to)).toNatClampNeg = 4 * to := nI_clamp (by omega)
  have eix : nI (32 * c) + 8 * a25 (nI c).toNatClampNeg - 5 = nI (32 * c + (8 * cs_m n - 5)) := by
    rw [ec, h25, show (8 : Int32) = nI 8 from rfl, pk_mul, nI_add, show (5 : Int32) = nI 5 from rfl, pk_sub (by omega)]
    congr 1
    omega
  unfold wpX_takeIn
  refine ⟨pk_in to 4 ht, nm_r (e' := nI (4 * to)) (by rw [et, h21, show (4 : Int32) = nI 4 from rfl, pk_mul, show (0 : Int32) = nI 0 from rfl, nI_add]; rfl) (nm_r (pk_mul 32 c) ⟨pk_in (4 * to) 16 (by omega), nm_e ⟨pk_in c 8 hc, ?_⟩⟩)⟩
  rw [eix, ef]
  refine ⟨pk_in (32 * c + (8 * cs_m n - 5)) 256 (by omega), pk_in (4 * to) 16 (by omega), nm_r (e' := upd a23 (4 * to) (nI n)) (by rw [nI_clamp (by omega), h28 _ (by omega), cs_Qn m3]) ?_⟩
  refine pk_loop (fun u j s => wX_takeIn_52 post (nI to) (nI (4 * to)) (nI (32 * c)) fb fk fc u (nI j) a1 a2 a3 a4 a5 a6 a7 a8 a9 a10 a11 a12 a13 a14 a15 a16 a17 a18 a19 a20 a21 (upd a22 (4 * to) (nI c)) (upd a23 (4 * to) (nI n)) s a25 a26 a27 a28 a29) (fun j s => ∀ t, t < j → s (108 * to + t) = d t) n 0 a24 (by omega) (fun t h => absurd h (by omega)) (fun u s hs => ?_) (fun u j s hj hs hw => ?_)
  · refine ⟨pk_in (4 * to) 16 (by omega), pk_le n n (fun _ => ⟨pk_in to 4 ht, pk_in to 4 ht, nm_r (e' := upd a21 to 1) (by rw [et, h21]; rfl) (hp s hs)⟩) (fun z => absurd z (by omega)) (by rw [ef, pk_us])⟩
  · refine ⟨pk_in (4 * to) 16 (by omega), pk_le n j (fun z => absurd z (by omega)) (fun _ => ?_) (by rw [ef, pk_us])⟩
    have e1 : 27 * nI (4 * to) + nI j = nI (108 * to + j) := by
      rw [show (27 : Int32) = nI 27 from rfl, pk_mul, nI_add]
      congr 1
      omega
    rw [nI_add, e1]
    refine ⟨pk_in (32 * c + j) 256 (by omega), pk_in (108 * to + j) 432 (by omega), nm_e (nm_r (nI_1 j) (hw _ (fun t h => ?_)))⟩
    rw [nI_clamp (show 108 * to + j < 2 ^ 31 by omega), nI_clamp (show 32 * c + j < 2 ^ 31 by omega)]
    by_cases e2 : t = j
    · rw [e2, pk_us, h28 j (by omega), cs_Qd' m3 hj]
    · rw [pk_un (by omega)]
      exact hs t (by omega)
theorem cs_forget {post : St2 → Prop} (hc : c < 8) (hp : post (fb, fk, fc, a1, a2, a3, a4, a5, a6, a7, a8, a9, a10, a11, a12, a13, a14, a15, a16, a17, a18, a19, a20, a21, a22, a23, a24, upd a25 c 0, upd a26 c 0, a27, a28, a29)) : wpX_forget post (fb, fk, fc, a1, a2, a3, a4, a5, a6, a7, a8, a9, a10, a11, a12, a13, a14, a15, a16, a17, a18, a19, a20, a21, a22, a23, a24, a25, a26, a27, a28, a29) (nI c) := by
  have ec : (nI c).toNatClampNeg = c := nI_clamp (by omega)
  unfold wpX_forget
  rw [ec]
  exact ⟨pk_in c 8 hc, nm_e ⟨pk_in c 8 hc, nm_e hp⟩⟩
theorem cs_finG {post : St2 → Prop} (hc : c < 8) (ht : to < 4) (hn1 : 1 ≤ n) (hn : n ≤ 27) (h21 : a21 to = 0) (h25 : a25 c = nI (cs_m n)) (h26 : a26 c = 0) (h28 : ∀ t, t < 8 * cs_m n → a28 (32 * c + t) = cs_Q d n (8 * cs_m n) t)
    (hp : ∀ gc b24, (∀ j, j < n → b24 (108 * to + j) = d j) → post (fb, fk, gc, a1, a2, a3, a4, a5, a6, a7, a8, a9, a10, a11, a12, a13, a14, a15, a16, a17, a18, a19, a20, upd a21 to 1, upd a22 (4 * to) (nI c), upd a23 (4 * to) (nI n), b24, upd a25 c 0, upd a26 c 0, a27, a28, upd a29 4 (a29 4 + 1))) : wpX_finish post (fb, fk, fc, a1, a2, a3, a4, a5, a6, a7, a8, a9, a10, a11, a12, a13, a14, a15, a16, a17, a18, a19, a20, a21, a22, a23, a24, a25, a26, a27, a28, a29) (nI c) (nI to) := by
  unfold wpX_finish
  refine cs_right hc hn1 hn h25 h26 h28 (fun gc => br_f (by decide) ⟨pk_in to 4 ht, br_f ?_ (nm_e ?_)⟩)
  · rw [nI_clamp (by omega), h21]
    decide
  · refine cs_takein hc ht hn1 hn h21 h25 h28 (fun b24 hb => ?_)
    unfold wX_finish_61
    exact cs_forget hc (hp gc b24 hb)
theorem cs_finB {post : St2 → Prop} {q : Nat} (hc : c < 8) (hq1 : 1 ≤ q) (hq : q ≤ 4) (h25 : a25 c = nI q) (h26 : ¬ a26 c = 0) (hp : post (fb, fk, fc, a1, a2, a3, a4, a5, a6, a7, a8, a9, a10, a11, a12, a13, a14, a15, a16, a17, a18, a19, a20, a21, a22, a23, a24, upd a25 c 0, upd a26 c 0, a27, a28, upd a29 5 (a29 5 + 1))) : wpX_finish post (fb, fk, fc, a1, a2, a3, a4, a5, a6, a7, a8, a9, a10, a11, a12, a13, a14, a15, a16, a17, a18, a19, a20, a21, a22, a23, a24, a25, a26, a27, a28, a29) (nI c) (nI to) := by
  unfold wpX_finish
  refine cs_wrong hc hq1 hq h25 h26 (br_t rfl (nm_e ?_))
  unfold wX_finish_61
  exact cs_forget hc hp
end
end
section
/-! a cell comes in; a queue gives one up -/
theorem cs_ClT {c n i : Nat} {d x y : Nat → Int32} (h : cs_Cl c n d i x) (e : ∀ t, t < 12 → y t = x t) : cs_Cl c n d i y := by
  obtain ⟨h0, h1, h2, h3, h4⟩ := h
  exact ⟨by rw [e 0 (by omega)]; exact h0, by rw [e 1 (by omega)]; exact h1, by rw [e 2 (by omega)]; exact h2, by rw [e 3 (by omega)]; exact h3, fun r hr => by rw [e _ (by omega)]; exact h4 r hr⟩
section
variable {fb fk fc : Int32} {a1 a2 a3 a4 a5 a6 a7 a8 a9 a10 a11 a12 a13 a14 a15 a16 a17 a18 a19 a20 a21 a22 a23 a24 a25 a26 a27 a28 a29 : Nat → Int32} {c n to i : Nat} {d : Nat → Int32} {post : St2 → Prop}
/-- behind the copy: one more is kept; the last one ends the frame -/
theorem cs_c153 {q : Nat} (hc : c < 8) (hi : i < 4) (hq : q < 4) (h0 : a14 0 = nI (cs_hd c n i)) (h25 : a25 c = nI q)
    (hN : ¬ i + 1 = cs_m n → post (fb, fk, fc, a1, a2, a3, a4, a5, a6, a7, a8, a9, a10, a11, a12, a13, a14, a15, a16, a17, a18, a19, a20, a21, a22, a23, a24, upd a25 c (nI (q + 1)), a26, a27, a28, a29)) (hE : i + 1 = cs_m n → wpX_finish post (fb, fk, fc, a1, a2, a3, a4, a5, a6, a7, a8, a9, a10, a11, a12, a13, a14, a15, a16, a17, a18, a19, a20, a21, a22, a23, a24, upd a25 c (nI (q + 1)), a26, a27, a28, a29) (nI c) (nI to)) : wX_comeIn_153 post (nI to) (nI c) fb fk fc a1 a2 a3 a4 a5 a6 a7 a8 a9 a10 a11 a12 a13 a14 a15 a16 a17 a18 a19 a20 a21 a22 a23 a24 a25 a26 a27 a28 a29 := by
  have ec : (nI c).toNatClampNeg = c := nI_clamp (by omega)
  unfold wX_comeIn_153
  rw [ec]
  refine ⟨pk_in c 8 hc, pk_in c 8 hc, br_f (by rw [h25]; exact nI_ge (b := 4) hq (by decide)) ?_⟩
  unfold wX_comeIn_175
  refine ⟨pk_in c 8 hc, nm_r (e' := upd a25 c (nI (q + 1))) (by rw [ec, h25, nI_1]) ?_⟩
  rw [h0]
  by_cases e : i + 1 = cs_m n
  · exact br_f (cs_hdl hc hi e) (hE e)
  · exact br_t (cs_hdn hc hi e) (hN e)
/-- a cell that follows -/
theorem cs_comeG (hc : c < 8) (hi : i < 4) (h14 : cs_Cl c n d i a14) (h25 : a25 c = nI i) (h26 : a26 c = 0) (h27 : i = 0 ∨ a27 c = 0) (h28 : ∀ t, t < 8 * i → a28 (32 * c + t) = cs_Q d n (8 * cs_m n) t)
    (hN : ¬ i + 1 = cs_m n → ∀ b28, (∀ t, t < 8 * (i + 1) → b28 (32 * c + t) = cs_Q d n (8 * cs_m n) t) → post (fb, fk, fc, a1, a2, a3, a4, a5, a6, a7, a8, a9, a10, a11, a12, a13, a14, a15, a16, a17, a18, a19, a20, a21, a22, a23, a24, upd a25 c (nI (i + 1)), upd a26 c 0, upd a27 c 0, b28, a29))
    (hE : i + 1 = cs_m n → ∀ b28, (∀ t, t < 8 * (i + 1) → b28 (32 * c + t) = cs_Q d n (8 * cs_m n) t) → wpX_finish post (fb, fk, fc, a1, a2, a3, a4, a5, a6, a7, a8, a9, a10, a11, a12, a13, a14, a15, a16, a17, a18, a19, a20, a21, a22, a23, a24, upd a25 c (nI (i + 1)), upd a26 c 0, upd a27 c 0, b28, a29) (nI c) (nI to)) : wpX_comeIn post (fb, fk, fc, a1, a2, a3, a4, a5, a6, a7, a8, a9, a10, a11, a12, a13, a14, a15, a16, a17, a18, a19, a20, a21, a22, a23, a24, a25, a26, a27, a28, a29) (nI to) := by
  have ec : (nI c).toNatClampNeg = c := nI_clamp (by omega)
  obtain ⟨e0, e1, e2, e3, e4⟩ := h14
  have b68 : wX_comeIn_68 post (nI to) (nI c) 0 (nI i) 1 fb fk fc a1 a2 a3 a4 a5 a6 a7 a8 a9 a10 a11 a12 a13 a14 a15 a16 a17 a18 a19 a20 a21 a22 a23 a24 a25 a26 a27 a28 a29 := by
    unfold wX_comeIn_68
    rw [ec]
    refine ⟨pk_in c 8 hc, br_t h26 (br_f (by decide) ?_)⟩
    unfold wX_comeIn_94
    rw [ec]
    refine ⟨pk_in c 8 hc, nm_r (e' := upd a26 c 0) rfl ⟨pk_in c 8 hc, nm_e ⟨pk_in c 8 hc, br_t pk_us ?_⟩⟩⟩
    refine pk_loop (fun u r s => wX_comeIn_114 post (nI to) (nI c) (nI i) fb fk fc u (nI r) a1 a2 a3 a4 a5 a6 a7 a8 a9 a10 a11 a12 a13 a14 a15 a16 a17 a18 a19 a20 a21 a22 a23 a24 a25 (upd a26 c 0) (upd a27 c 0) s a29) (fun r s => ∀ t, t < 8 * i + r → s (32 * c + t) = cs_Q d n (8 * cs_m n) t) 8 0 a28 (by omega) h28 (fun u s hs => ?_) (fun u r s hr hs hw => ?_)
    · exact pk_le 8 8 (fun _ => cs_c153 hc hi hi e0 h25 (fun z => hN z s hs) (fun z => hE z s hs)) (fun z => absurd z (by omega))
    · refine pk_le 8 r (fun z => absurd z (by omega)) (fun _ => ?_)
      have ea : 8 * (4 * nI c + nI i) + nI r = nI (32 * c + (8 * i + r)) := by
        rw [show (4 : Int32) = nI 4 from rfl, pk_mul, nI_add, show (8 : Int32) = nI 8 from rfl, pk_mul, nI_add]
        congr 1
        omega
      rw [ea, show (4 : Int32) + nI r = nI (4 + r) from nI_add 4 r]
      refine ⟨pk_in (4 + r) 12 (by omega), pk_in (32 * c + (8 * i + r)) 256 (by omega), nm_e (nm_r (nI_1 r) (hw _ (fun t h => ?_)))⟩
      rw [nI_clamp (show 32 * c + (8 * i + r) < 2 ^ 31 by omega), nI_clamp (show 4 + r < 2 ^ 31 by omega)]
      by_cases e : t = 8 * i + r
      · rw [e, pk_us, e4 r hr]
      · rw [pk_un (by omega)]
        exact hs t (by omega)
  have b63 : wX_comeIn_63 post (nI to) (nI c) 0 (nI i) fb fk fc a1 a2 a3 a4 a5 a6 a7 a8 a9 a10 a11 a12 a13 a14 a15 a16 a17 a18 a19 a20 a21 a22 a23 a24 a25 a26 a27 a28 a29 := by
    unfold wX_comeIn_63
    exact b68
  unfold wpX_comeIn
  refine nm_r (e' := nI c) (by rw [e0]; exact cs_hdc hc hi) (nm_r (e' := 0) (by rw [e1, e2]; exact cs_or0) (nm_r (e' := nI i) (by rw [e0]; exact cs_hdk hc hi) ⟨pk_in c 8 hc, ?_⟩))
  rw [ec]
  refine br_t h25.symm (br_c (fun _ => b63) (fun z => ⟨pk_in c 8 hc, br_t ?_ b63⟩))
  rcases h27 with h | h
  · exact absurd (by rw [h]; rfl) z
  · exact h
/-- the last cell, where one is missing -/
theorem cs_comeB {q : Nat} (hc : c < 8) (hi : i < 4) (hq : q < i) (h14 : cs_Cl c n d i a14) (h25 : a25 c = nI q) (hE : i + 1 = cs_m n) (hp : ∀ b25 b26 b27, post (fb, fk, fc, a1, a2, a3, a4, a5, a6, a7, a8, a9, a10, a11, a12, a13, a14, a15, a16, a17, a18, a19, a20, a21, a22, a23, a24, b25, b26, b27, a28, upd a29 5 (a29 5 + 1))) : wpX_comeIn post (fb, fk, fc, a1, a2, a3, a4, a5, a6, a7, a8, a9, a10, a11, a12, a13, a14, a15, a16, a17, a18, a19, a20, a21, a22, a23, a24, a25, a26, a27, a28, a29) (nI to) := by
  have ec : (nI c).toNatClampNeg = c := nI_clamp (by omega)
  obtain ⟨e0, e1, e2, e3, e4⟩ := h14
  have b94 : wX_comeIn_94 post (nI to) (nI c) 0 (nI i) 1 (nI c) fb fk fc a1 a2 a3 a4 a5 a6 a7 a8 a9 a10 a11 a12 a13 a14 a15 a16 a17 a18 a19 a20 a21 a22 a23 a24 a25 a26 a27 a28 a29 := by
    unfold wX_comeIn_94
    rw [ec]
    refine ⟨pk_in c 8 hc, nm_r (e' := upd a26 c 1) rfl ⟨pk_in c 8 hc, nm_e ⟨pk_in c 8 hc, br_f (by rw [pk_us]; decide) ?_⟩⟩⟩
    exact cs_c153 hc hi (by omega) e0 h25 (fun z => absurd hE z) (fun _ => cs_finB (q := q + 1) hc (by omega) (by omega) pk_us (by rw [pk_us]; decide) (hp _ _ _))
  have b68 : wX_comeIn_68 post (nI to) (nI c) 0 (nI i) 0 fb fk fc a1 a2 a3 a4 a5 a6 a7 a8 a9 a10 a11 a12 a13 a14 a15 a16 a17 a18 a19 a20 a21 a22 a23 a24 a25 a26 a27 a28 a29 := by
    unfold wX_comeIn_68
    have b89 : wX_comeIn_89 post (nI to) (nI c) 0 (nI i) (nI c) fb fk fc a1 a2 a3 a4 a5 a6 a7 a8 a9 a10 a11 a12 a13 a14 a15 a16 a17 a18 a19 a20 a21 a22 a23 a24 a25 a26 a27 a28 a29 := by
      unfold wX_comeIn_89
      exact b94
    exact ⟨pk_in c 8 hc, br_c (fun _ => br_t rfl b89) (fun _ => b89)⟩
  have b67 : wX_comeIn_67 post (nI to) (nI c) 0 (nI i) fb fk fc a1 a2 a3 a4 a5 a6 a7 a8 a9 a10 a11 a12 a13 a14 a15 a16 a17 a18 a19 a20 a21 a22 a23 a24 a25 a26 a27 a28 a29 := by
    unfold wX_comeIn_67
    exact b68
  unfold wpX_comeIn
  refine nm_r (e' := nI c) (by rw [e0]; exact cs_hdc hc hi) (nm_r (e' := 0) (by rw [e1, e2]; exact cs_or0) (nm_r (e' := nI i) (by rw [e0]; exact cs_hdk hc hi) ⟨pk_in c 8 hc, ?_⟩))
  rw [ec]
  refine br_f ?_ b67
  rw [h25]
  exact fun z => absurd ((nI_eq (by omega) (by omega)).mp z) (by omega)
/-- the queue's one cell is taken out -/
theorem cs_dequeue {x : Nat → Int32} (ht : to < 4) (h19 : a19 to = 1) (hq : cs_Qd to x a20) (hp : ∀ b14, (∀ t, t < 12 → b14 t = x t) → wpX_comeIn post (fb, fk, fc, a1, a2, a3, a4, a5, a6, a7, a8, a9, a10, a11, a12, a13, b14, a15, a16, a17, a18, upd a19 to 0, a20, a21, a22, a23, a24, a25, a26, a27, a28, a29) (nI to)) : wpX_deliverTo post (fb, fk, fc, a1, a2, a3, a4, a5, a6, a7, a8, a9, a10, a11, a12, a13, a14, a15, a16, a17, a18, a19, a20, a21, a22, a23, a24, a25, a26, a27, a28, a29) (nI to) := by
  have et : (nI to).toNatClampNeg = to := nI_clamp (by omega)
  unfold wpX_deliverTo
  rw [et]
  refine ⟨pk_in to 4 ht, br_f (by rw [h19]; decide) (nm_r (pk_mul 72 to) ?_)⟩
  refine pk_loop (fun u j s => wX_deliverTo_17 post (nI to) (nI (72 * to)) fb fk fc u (nI j) a1 a2 a3 a4 a5 a6 a7 a8 a9 a10 a11 a12 a13 s a15 a16 a17 a18 a19 a20 a21 a22 a23 a24 a25 a26 a27 a28 a29) (fun j s => ∀ t, t < j → s t = x t) 12 0 a14 (by omega) (fun t h => absurd h (by omega)) (fun u s hs => ?_) (fun u j s hj hs hw => ?_)
  · refine pk_le 12 12 (fun _ => ⟨pk_in to 4 ht, pk_in to 4 ht, nm_r (e' := upd a19 to 0) (by rw [et, h19]; rfl) ⟨1, pk_in to 4 ht, br_t ?_ (hp s hs)⟩⟩) (fun z => absurd z (by omega))
    rw [et, pk_us, show (12 : Int32) * 0 = 0 from by decide, Int32.add_zero]
    exact Int32.le_refl _
  · refine pk_le 12 j (fun z => absurd z (by omega)) (fun _ => ?_)
    rw [nI_add]
    refine ⟨pk_in (72 * to + j) 288 (by omega), pk_in j 12 hj, nm_e (nm_r (nI_1 j) (hw _ (fun t h => ?_)))⟩
    rw [nI_clamp (show 72 * to + j < 2 ^ 31 by omega), nI_clamp (show j < 2 ^ 31 by omega)]
    by_cases e : t = j
    · rw [e, pk_us, hq j hj]
    · rw [pk_un e]
      exact hs t (by omega)
end
end
section
/-! a tick of the switch while a frame is under way; passes -/
/-- the frame has gone; e: some cell of it was dropped -/
def cs_F (c fr to n : Nat) (d : Nat → Int32) (e : Bool) (k : Nat) (fb fk fc : Int32) (a1 a2 a3 a4 a5 a6 a7 a8 a9 a10 a11 a12 a13 a14 a15 a16 a17 a18 a19 a20 a21 a22 a23 a24 a25 a26 a27 a28 a29 : Nat → Int32) : Prop :=
  fb = 1 ∧ fk = nI k ∧ (a1 c = 1 ∧ (∀ j, j < 8 → j ≠ c → a1 j = 0) ∧ a3 c = nI to) ∧ cs_Y a15 a16 a18 ∧ (∀ s, s < 4 → a19 s = 0) ∧ a7 c = 0 ∧
  (e = true → a21 to = 0 ∧ a29 4 = 0 ∧ ∃ v, 0 < v ∧ v ≤ 4 ∧ a29 0 = nI v) ∧
  (e = false → a21 to = 1 ∧ a29 4 = 1 ∧ a22 (4 * to) = nI c ∧ a23 (4 * to) = nI n ∧ ∀ j, j < n → a24 (108 * to + j) = d j)
/-- behind tick i -/
def cs_N (c fr to g T n K : Nat) (d : Nat → Int32) (i k : Nat) (fb fk fc : Int32) (a1 a2 a3 a4 a5 a6 a7 a8 a9 a10 a11 a12 a13 a14 a15 a16 a17 a18 a19 a20 a21 a22 a23 a24 a25 a26 a27 a28 a29 : Nat → Int32) : Prop :=
  (i + 1 < cs_m n → cs_I c fr to g T n K d (i + 1) k fb fk fc a1 a2 a3 a4 a5 a6 a7 a8 a9 a10 a11 a12 a13 a14 a15 a16 a17 a18 a19 a20 a21 a22 a23 a24 a25 a26 a27 a28 a29) ∧ (i + 1 = cs_m n → cs_F c fr to n d (cs_er K T g (i + 1)) k fb fk fc a1 a2 a3 a4 a5 a6 a7 a8 a9 a10 a11 a12 a13 a14 a15 a16 a17 a18 a19 a20 a21 a22 a23 a24 a25 a26 a27 a28 a29)
theorem cs_one0 {to : Nat} {a19 : Nat → Int32} (h : cs_one to a19) : ∀ s, s < 4 → upd a19 to 0 s = 0 := by
  intro s hs
  by_cases e : s = to
  · rw [e, pk_us]
  · rw [pk_un e]
    exact h.2 s hs e
section
variable {fb fk fc : Int32} {a1 a2 a3 a4 a5 a6 a7 a8 a9 a10 a11 a12 a13 a14 a15 a16 a17 a18 a19 a20 a21 a22 a23 a24 a25 a26 a27 a28 a29 : Nat → Int32} {c fr to g T n K i k : Nat} {d : Nat → Int32}
/-- nothing was queued -/
theorem cs_MN (hP : cs_Pm c fr to g T n K) (hi : i < cs_m n) (hM : cs_M c fr to g T n K d i k fb fk fc a1 a2 a3 a4 a5 a6 a7 a8 a9 a10 a11 a12 a13 a14 a15 a16 a17 a18 a19 a20 a21 a22 a23 a24 a25 a26 a27 a28 a29) (h19 : ∀ s, s < 4 → a19 s = 0) : cs_N c fr to g T n K d i k fb fk fc a1 a2 a3 a4 a5 a6 a7 a8 a9 a10 a11 a12 a13 a14 a15 a16 a17 a18 a19 a20 a21 a22 a23 a24 a25 a26 a27 a28 a29 := by
  obtain ⟨hc, hfr, hto, hg, hT, hn1, hn, hK⟩ := hP
  obtain ⟨m1, m2, m3, m4⟩ := cs_mb hn1 hn
  obtain ⟨eb, ek, hX, hY, h21, hF, ⟨q, hKp⟩, hC, hO⟩ := hM
  rcases hO with ⟨_, er1, hD⟩ | ⟨ho, _⟩
  · rw [er1] at hC
    refine ⟨fun z => ⟨eb, ek, hX, hY, h19, h21, hF.1 z, ?_, ?_, q, ?_⟩, fun z => ⟨eb, ek, ⟨hX.1, hX.2.1, hX.2.2.2.1⟩, hY, h19, hF.2 z, fun _ => ?_, fun w => ?_⟩⟩
    · rw [er1]
      exact hD
    · rw [er1]
      exact hC
    · obtain ⟨k1, k2, k3, k4, k5⟩ := hKp
      rw [er1]
      refine ⟨k1, k2, k3, fun w => absurd w (by decide), fun _ => ?_⟩
      cases he : cs_er K T g i with
      | true => exact Nat.lt_succ_of_lt (k5 he)
      | false => rw [(k4 he).1]; exact Nat.lt_succ_self i
    · obtain ⟨v, v1, v2, v3⟩ := hC.2.1 rfl
      exact ⟨h21 to hto, hC.1, v, v1, by omega, v3⟩
    · rw [er1] at w
      exact absurd w (by decide)
  · have h1 := ho.1
    rw [h19 to hto] at h1
    exact absurd h1 (by decide)
/-- a cell was queued: it is delivered -/
theorem cs_delI {post : St2 → Prop} (hP : cs_Pm c fr to g T n K) (hi : i < cs_m n) (hM : cs_M c fr to g T n K d i k fb fk fc a1 a2 a3 a4 a5 a6 a7 a8 a9 a10 a11 a12 a13 a14 a15 a16 a17 a18 a19 a20 a21 a22 a23 a24 a25 a26 a27 a28 a29) (hp : ∀ (gb gk gc : Int32) (b1 b2 b3 b4 b5 b6 b7 b8 b9 b10 b11 b12 b13 b14 b15 b16 b17 b18 b19 b20 b21 b22 b23 b24 b25 b26 b27 b28 b29 : Nat → Int32), cs_N c fr to g T n K d i k gb gk gc b1 b2 b3 b4 b5 b6 b7 b8 b9 b10 b11 b12 b13 b14 b15 b16 b17 b18 b19 b20 b21 b22 b23 b24 b25 b26 b27 b28 b29 → post (gb, gk, gc, b1, b2, b3, b4, b5, b6, b7, b8, b9, b10, b11, b12, b13, b14, b15, b16, b17, b18, b19, b20, b21, b22, b23, b24, b25, b26, b27, b28, b29)) : wpX_deliverTo post (fb, fk, fc, a1, a2, a3, a4, a5, a6, a7, a8, a9, a10, a11, a12, a13, a14, a15, a16, a17, a18, a19, a20, a21, a22, a23, a24, a25, a26, a27, a28, a29) (nI to) := by
  have hM0 := hM
  obtain ⟨hc, hfr, hto, hg, hT, hn1, hn, hK⟩ := id hP
  obtain ⟨m1, m2, m3, m4⟩ := cs_mb hn1 hn
  obtain ⟨eb, ek, hX, hY, h21, hF, ⟨q, hKp⟩, hC, hO⟩ := hM
  rcases hO with ⟨h19, _⟩ | ⟨ho, ⟨x, hcl, hqd⟩, hcase⟩
  · exact cs_del0 hto (h19 to hto) (hp _ _ _ _ _ _ _ _ _ _ _ _ _ _ _ _ _ _ _ _ _ _ _ _ _ _ _ _ _ _ _ _ (cs_MN hP hi hM0 h19))
  · have h19 := cs_one0 ho
    obtain ⟨k1, k2, k3, k4, k5⟩ := hKp
    refine cs_dequeue hto ho.1 hqd (fun b14 hb => ?_)
    rcases hcase with ⟨he, er1, hD⟩ | ⟨he, er1, el⟩
    · obtain ⟨eq, h28⟩ := k4 he
      subst eq
      rw [er1] at hC
      refine cs_comeG (i := q) hc (by omega) (cs_ClT hcl hb) k1 k2 k3 h28 (fun z b28 hb28 => hp _ _ _ _ _ _ _ _ _ _ _ _ _ _ _ _ _ _ _ _ _ _ _ _ _ _ _ _ _ _ _ _ ⟨fun z2 => ?_, fun z2 => absurd z2 z⟩) (fun z b28 hb28 => ?_)
      · refine ⟨eb, ek, hX, hY, h19, h21, hF.1 z2, ?_, ?_, q + 1, ?_⟩
        · rw [er1]
          exact hD
        · rw [er1]
          exact hC
        · rw [er1]
          exact ⟨pk_us, pk_us, Or.inr pk_us, fun _ => ⟨rfl, hb28⟩, fun w => absurd w (by decide)⟩
      · refine cs_finG (d := d) hc hto hn1 hn (h21 to hto) (by rw [pk_us, z]) pk_us (fun t ht => hb28 t (by omega)) (fun gc b24 hb24 => hp _ _ _ _ _ _ _ _ _ _ _ _ _ _ _ _ _ _ _ _ _ _ _ _ _ _ _ _ _ _ _ _ ⟨fun z2 => absurd z2 (by omega), fun z2 => ?_⟩)
        refine ⟨eb, ek, ⟨hX.1, hX.2.1, hX.2.2.2.1⟩, hY, h19, hF.2 z2, fun w => ?_, fun _ => ⟨pk_us, by rw [pk_us, hC.1]; rfl, pk_us, pk_us, hb24⟩⟩
        rw [er1] at w
        exact absurd w (by decide)
    · refine cs_comeB (q := q) hc (by omega) (k5 he) (cs_ClT hcl hb) k1 el (fun b25 b26 b27 => hp _ _ _ _ _ _ _ _ _ _ _ _ _ _ _ _ _ _ _ _ _ _ _ _ _ _ _ _ _ _ _ _ ⟨fun z2 => absurd z2 (by omega), fun z2 => ?_⟩)
      rw [er1] at hC
      refine ⟨eb, ek, ⟨hX.1, hX.2.1, hX.2.2.2.1⟩, hY, h19, hF.2 z2, fun _ => ?_, fun w => ?_⟩
      · obtain ⟨v, v1, v2, v3⟩ := hC.2.1 rfl
        exact ⟨h21 to hto, by rw [pk_un (by decide)]; exact hC.1, v, v1, by omega, by rw [pk_un (by decide)]; exact v3⟩
      · rw [er1] at w
        exact absurd w (by decide)
/-- the queue counters behind the send: only to may hold one -/
theorem cs_M19 (hM : cs_M c fr to g T n K d i k fb fk fc a1 a2 a3 a4 a5 a6 a7 a8 a9 a10 a11 a12 a13 a14 a15 a16 a17 a18 a19 a20 a21 a22 a23 a24 a25 a26 a27 a28 a29) : ∀ s, s < 4 → s ≠ to → a19 s = 0 := by
  obtain ⟨eb, ek, hX, hY, h21, hF, hKp, hC, hO⟩ := hM
  rcases hO with ⟨h19, _⟩ | ⟨ho, _⟩
  · exact fun s hs _ => h19 s hs
  · exact ho.2
theorem cs_N19 (hN : cs_N c fr to g T n K d i k fb fk fc a1 a2 a3 a4 a5 a6 a7 a8 a9 a10 a11 a12 a13 a14 a15 a16 a17 a18 a19 a20 a21 a22 a23 a24 a25 a26 a27 a28 a29) (hi : i < cs_m n) : ∀ s, s < 4 → a19 s = 0 := by
  by_cases e : i + 1 = cs_m n
  · obtain ⟨_, _, _, _, h, _⟩ := hN.2 e
    exact h
  · obtain ⟨_, _, _, _, h, _⟩ := hN.1 (by omega)
    exact h
theorem cs_tickI {post : Int32 → St2 → Prop} {J : Int32 → Int32 → Int32 → Int32 → (Nat → Int32) → (Nat → Int32) → (Nat → Int32) → (Nat → Int32) → (Nat → Int32) → (Nat → Int32) → (Nat → Int32) → (Nat → Int32) → (Nat → Int32) → (Nat → Int32) → (Nat → Int32) → (Nat → Int32) → (Nat → Int32) → (Nat → Int32) → (Nat → Int32) → (Nat → Int32) → (Nat → Int32) → (Nat → Int32) → (Nat → Int32) → (Nat → Int32) → (Nat → Int32) → (Nat → Int32) → (Nat → Int32) → (Nat → Int32) → (Nat → Int32) → (Nat → Int32) → (Nat → Int32) → (Nat → Int32) → (Nat → Int32) → Prop} {x1 x2 x3 : Int32} (hP : cs_Pm c fr to g T n K) (hi : i < cs_m n) (hk : k = K + i + 1) (hI : cs_I c fr to g T n K d i k fb fk fc a1 a2 a3 a4 a5 a6 a7 a8 a9 a10 a11 a12 a13 a14 a15 a16 a17 a18 a19 a20 a21 a22 a23 a24 a25 a26 a27 a28 a29) (hJ : ∀ (gb gk gc : Int32) (b1 b2 b3 b4 b5 b6 b7 b8 b9 b10 b11 b12 b13 b14 b15 b16 b17 b18 b19 b20 b21 b22 b23 b24 b25 b26 b27 b28 b29 : Nat → Int32), cs_N c fr to g T n K d i k gb gk gc b1 b2 b3 b4 b5 b6 b7 b8 b9 b10 b11 b12 b13 b14 b15 b16 b17 b18 b19 b20 b21 b22 b23 b24 b25 b26 b27 b28 b29 → J (x3 + 1) gb gk gc b1 b2 b3 b4 b5 b6 b7 b8 b9 b10 b11 b12 b13 b14 b15 b16 b17 b18 b19 b20 b21 b22 b23 b24 b25 b26 b27 b28 b29) : ∃ fu, wX_pass_40 post J x1 x2 x3 fu 0 fb fk fc a1 a2 a3 a4 a5 a6 a7 a8 a9 a10 a11 a12 a13 a14 a15 a16 a17 a18 a19 a20 a21 a22 a23 a24 a25 a26 a27 a28 a29 := by
  have hI0 := hI
  obtain ⟨hc, hfr, hto, hg, hT, hn1, hn, hK⟩ := id hP
  obtain ⟨eb, ek, hX, hY, h19, h21, hF, hD, hC, hKp⟩ := hI
  refine ⟨(4 - fr + 1) + fr, cs_p40b (by omega) (fun j hj => cs_Xidle hfr hX hY (by omega) (by omega)) ?_⟩
  refine pk_le 4 fr (fun z => absurd z (by omega)) (fun _ => cs_sendI hP hi hk hI0 (fun gb gk gc b1 b2 b3 b4 b5 b6 b7 b8 b9 b10 b11 b12 b13 b14 b15 b16 b17 b18 b19 b20 b21 b22 b23 b24 b25 b26 b27 b28 b29 hM => nm_r (nI_1 fr) ?_))
  have hX' : cs_X c fr to g T b1 b2 b3 b4 b5 := hM.2.2.1
  have hY' : cs_Y b15 b16 b18 := hM.2.2.2.1
  have e4 : 4 - fr = (4 - (fr + 1)) + 1 := by omega
  rw [e4]
  refine cs_p40a (by omega) (fun j hj hj4 => cs_Xidle hfr hX' hY' hj4 (by omega)) ⟨(4 - to + 1) + to, cs_p61b (by omega) (fun j hj => cs_M19 hM j (by omega) (by omega)) ?_⟩
  refine pk_le 4 to (fun z => absurd z (by omega)) (fun _ => cs_delI hP hi hM (fun (fb fk fc : Int32) (a1 a2 a3 a4 a5 a6 a7 a8 a9 a10 a11 a12 a13 a14 a15 a16 a17 a18 a19 a20 a21 a22 a23 a24 a25 a26 a27 a28 a29 : Nat → Int32) hN => nm_r (nI_1 to) ?_))
  have e5 : 4 - to = (4 - (to + 1)) + 1 := by omega
  rw [e5]
  exact cs_p61a (by omega) (fun j hj hj4 => cs_N19 hN hi j hj4) (hJ _ _ _ _ _ _ _ _ _ _ _ _ _ _ _ _ _ _ _ _ _ _ _ _ _ _ _ _ _ _ _ _ hN)
end
theorem cs_Ik {fb fk fc : Int32} {a1 a2 a3 a4 a5 a6 a7 a8 a9 a10 a11 a12 a13 a14 a15 a16 a17 a18 a19 a20 a21 a22 a23 a24 a25 a26 a27 a28 a29 : Nat → Int32} {c fr to g T n K i k k' : Nat} {d : Nat → Int32} {gk : Int32} (h : cs_I c fr to g T n K d i k fb fk fc a1 a2 a3 a4 a5 a6 a7 a8 a9 a10 a11 a12 a13 a14 a15 a16 a17 a18 a19 a20 a21 a22 a23 a24 a25 a26 a27 a28 a29) (e : gk = nI k') : cs_I c fr to g T n K d i k' fb gk fc a1 a2 a3 a4 a5 a6 a7 a8 a9 a10 a11 a12 a13 a14 a15 a16 a17 a18 a19 a20 a21 a22 a23 a24 a25 a26 a27 a28 a29 := by
  obtain ⟨eb, ek, r⟩ := h
  exact ⟨eb, e, r⟩
theorem cs_passI {fb fk fc : Int32} {a1 a2 a3 a4 a5 a6 a7 a8 a9 a10 a11 a12 a13 a14 a15 a16 a17 a18 a19 a20 a21 a22 a23 a24 a25 a26 a27 a28 a29 : Nat → Int32} {c fr to g T n K : Nat} {d : Nat → Int32} {post : Int32 → St2 → Prop} (hP : cs_Pm c fr to g T n K) (hI : cs_I c fr to g T n K d 0 K fb fk fc a1 a2 a3 a4 a5 a6 a7 a8 a9 a10 a11 a12 a13 a14 a15 a16 a17 a18 a19 a20 a21 a22 a23 a24 a25 a26 a27 a28 a29) (hp : ∀ (gb gk gc : Int32) (b1 b2 b3 b4 b5 b6 b7 b8 b9 b10 b11 b12 b13 b14 b15 b16 b17 b18 b19 b20 b21 b22 b23 b24 b25 b26 b27 b28 b29 : Nat → Int32), cs_I c fr to g T n K d (cs_m n - 1) (K + (cs_m n - 1)) gb gk gc b1 b2 b3 b4 b5 b6 b7 b8 b9 b10 b11 b12 b13 b14 b15 b16 b17 b18 b19 b20 b21 b22 b23 b24 b25 b26 b27 b28 b29 → post 0 (gb, gk, gc, b1, b2, b3, b4, b5, b6, b7, b8, b9, b10, b11, b12, b13, b14, b15, b16, b17, b18, b19, b20, b21, b22, b23, b24, b25, b26, b27, b28, b29)) : wpX_pass post (fb, fk, fc, a1, a2, a3, a4, a5, a6, a7, a8, a9, a10, a11, a12, a13, a14, a15, a16, a17, a18, a19, a20, a21, a22, a23, a24, a25, a26, a27, a28, a29) (nI (cs_m n - 1)) := by
  obtain ⟨hc, hfr, hto, hg, hT, hn1, hn, hK⟩ := id hP
  obtain ⟨m1, m2, m3, m4⟩ := cs_mb hn1 hn
  have e29 : a29 4 = 0 := by
    obtain ⟨_, _, _, _, _, _, _, _, hC, _⟩ := hI
    exact hC.1
  unfold wpX_pass
  refine br_f (nI_pos (by omega)) (br_t (nI_le (b := 200) (by omega) (by decide)) (nm_r e29 ?_))
  refine pk_loop (σ := St2) (fun u j s => wX_pass_22 post (nI (cs_m n - 1)) 0 u (nI j) s.1 s.2.1 s.2.2.1 s.2.2.2.1 s.2.2.2.2.1 s.2.2.2.2.2.1 s.2.2.2.2.2.2.1 s.2.2.2.2.2.2.2.1 s.2.2.2.2.2.2.2.2.1 s.2.2.2.2.2.2.2.2.2.1 s.2.2.2.2.2.2.2.2.2.2.1 s.2.2.2.2.2.2.2.2.2.2.2.1 s.2.2.2.2.2.2.2.2.2.2.2.2.1 s.2.2.2.2.2.2.2.2.2.2.2.2.2.1 s.2.2.2.2.2.2.2.2.2.2.2.2.2.2.1 s.2.2.2.2.2.2.2.2.2.2.2.2.2.2.2.1 s.2.2.2.2.2.2.2.2.2.2.2.2.2.2.2.2.1 s.2.2.2.2.2.2.2.2.2.2.2.2.2.2.2.2.2.1 s.2.2.2.2.2.2.2.2.2.2.2.2.2.2.2.2.2.2.1 s.2.2.2.2.2.2.2.2.2.2.2.2.2.2.2.2.2.2.2.1 s.2.2.2.2.2.2.2.2.2.2.2.2.2.2.2.2.2.2.2.2.1 s.2.2.2.2.2.2.2.2.2.2.2.2.2.2.2.2.2.2.2.2.2.1 s.2.2.2.2.2.2.2.2.2.2.2.2.2.2.2.2.2.2.2.2.2.2.1 s.2.2.2.2.2.2.2.2.2.2.2.2.2.2.2.2.2.2.2.2.2.2.2.1 s.2.2.2.2.2.2.2.2.2.2.2.2.2.2.2.2.2.2.2.2.2.2.2.2.1 s.2.2.2.2.2.2.2.2.2.2.2.2.2.2.2.2.2.2.2.2.2.2.2.2.2.1 s.2.2.2.2.2.2.2.2.2.2.2.2.2.2.2.2.2.2.2.2.2.2.2.2.2.2.1 s.2.2.2.2.2.2.2.2.2.2.2.2.2.2.2.2.2.2.2.2.2.2.2.2.2.2.2.1 s.2.2.2.2.2.2.2.2.2.2.2.2.2.2.2.2.2.2.2.2.2.2.2.2.2.2.2.2.1 s.2.2.2.2.2.2.2.2.2.2.2.2.2.2.2.2.2.2.2.2.2.2.2.2.2.2.2.2.2.1 s.2.2.2.2.2.2.2.2.2.2.2.2.2.2.2.2.2.2.2.2.2.2.2.2.2.2.2.2.2.2.1 s.2.2.2.2.2.2.2.2.2.2.2.2.2.2.2.2.2.2.2.2.2.2.2.2.2.2.2.2.2.2.2) (fun j s => cs_I c fr to g T n K d j (K + j) s.1 s.2.1 s.2.2.1 s.2.2.2.1 s.2.2.2.2.1 s.2.2.2.2.2.1 s.2.2.2.2.2.2.1 s.2.2.2.2.2.2.2.1 s.2.2.2.2.2.2.2.2.1 s.2.2.2.2.2.2.2.2.2.1 s.2.2.2.2.2.2.2.2.2.2.1 s.2.2.2.2.2.2.2.2.2.2.2.1 s.2.2.2.2.2.2.2.2.2.2.2.2.1 s.2.2.2.2.2.2.2.2.2.2.2.2.2.1 s.2.2.2.2.2.2.2.2.2.2.2.2.2.2.1 s.2.2.2.2.2.2.2.2.2.2.2.2.2.2.2.1 s.2.2.2.2.2.2.2.2.2.2.2.2.2.2.2.2.1 s.2.2.2.2.2.2.2.2.2.2.2.2.2.2.2.2.2.1 s.2.2.2.2.2.2.2.2.2.2.2.2.2.2.2.2.2.2.1 s.2.2.2.2.2.2.2.2.2.2.2.2.2.2.2.2.2.2.2.1 s.2.2.2.2.2.2.2.2.2.2.2.2.2.2.2.2.2.2.2.2.1 s.2.2.2.2.2.2.2.2.2.2.2.2.2.2.2.2.2.2.2.2.2.1 s.2.2.2.2.2.2.2.2.2.2.2.2.2.2.2.2.2.2.2.2.2.2.1 s.2.2.2.2.2.2.2.2.2.2.2.2.2.2.2.2.2.2.2.2.2.2.2.1 s.2.2.2.2.2.2.2.2.2.2.2.2.2.2.2.2.2.2.2.2.2.2.2.2.1 s.2.2.2.2.2.2.2.2.2.2.2.2.2.2.2.2.2.2.2.2.2.2.2.2.2.1 s.2.2.2.2.2.2.2.2.2.2.2.2.2.2.2.2.2.2.2.2.2.2.2.2.2.2.1 s.2.2.2.2.2.2.2.2.2.2.2.2.2.2.2.2.2.2.2.2.2.2.2.2.2.2.2.1 s.2.2.2.2.2.2.2.2.2.2.2.2.2.2.2.2.2.2.2.2.2.2.2.2.2.2.2.2.1 s.2.2.2.2.2.2.2.2.2.2.2.2.2.2.2.2.2.2.2.2.2.2.2.2.2.2.2.2.2.1 s.2.2.2.2.2.2.2.2.2.2.2.2.2.2.2.2.2.2.2.2.2.2.2.2.2.2.2.2.2.2.1 s.2.2.2.2.2.2.2.2.2.2.2.2.2.2.2.2.2.2.2.2.2.2.2.2.2.2.2.2.2.2.2) (cs_m n - 1) 0 (fb, fk, fc, a1, a2, a3, a4, a5, a6, a7, a8, a9, a10, a11, a12, a13, a14, a15, a16, a17, a18, a19, a20, a21, a22, a23, a24, a25, a26, a27, a28, a29) (by omega) hI (fun u s hs => ?_) (fun u j s hj hs hw => ?_)
  · obtain ⟨fb, fk, fc, a1, a2, a3, a4, a5, a6, a7, a8, a9, a10, a11, a12, a13, a14, a15, a16, a17, a18, a19, a20, a21, a22, a23, a24, a25, a26, a27, a28, a29⟩ := s
    have hs' : cs_I c fr to g T n K d (cs_m n - 1) (K + (cs_m n - 1)) fb fk fc a1 a2 a3 a4 a5 a6 a7 a8 a9 a10 a11 a12 a13 a14 a15 a16 a17 a18 a19 a20 a21 a22 a23 a24 a25 a26 a27 a28 a29 := hs
    have e : a29 4 = 0 := by
      obtain ⟨_, _, _, _, _, _, _, _, hC, _⟩ := hs'
      exact hC.1
    refine pk_le (cs_m n - 1) (cs_m n - 1) (fun _ => ?_) (fun z => absurd z (by omega))
    show post (a29 4 - 0) (fb, fk, fc, a1, a2, a3, a4, a5, a6, a7, a8, a9, a10, a11, a12, a13, a14, a15, a16, a17, a18, a19, a20, a21, a22, a23, a24, a25, a26, a27, a28, a29)
    rw [e]
    exact hp _ _ _ _ _ _ _ _ _ _ _ _ _ _ _ _ _ _ _ _ _ _ _ _ _ _ _ _ _ _ _ _ hs'
  · obtain ⟨fb, fk, fc, a1, a2, a3, a4, a5, a6, a7, a8, a9, a10, a11, a12, a13, a14, a15, a16, a17, a18, a19, a20, a21, a22, a23, a24, a25, a26, a27, a28, a29⟩ := s
    have hs' : cs_I c fr to g T n K d j (K + j) fb fk fc a1 a2 a3 a4 a5 a6 a7 a8 a9 a10 a11 a12 a13 a14 a15 a16 a17 a18 a19 a20 a21 a22 a23 a24 a25 a26 a27 a28 a29 := hs
    refine pk_le (cs_m n - 1) j (fun z => absurd z (by omega)) (fun _ => nm_e (cs_tickI hP (by omega) rfl (cs_Ik hs' ?_) (fun gb gk gc b1 b2 b3 b4 b5 b6 b7 b8 b9 b10 b11 b12 b13 b14 b15 b16 b17 b18 b19 b20 b21 b22 b23 b24 b25 b26 b27 b28 b29 hN => ?_)))
    · rw [show fk = nI (K + j) from hs'.2.1, nI_1]
    · rw [nI_1]
      exact hw (gb, gk, gc, b1, b2, b3, b4, b5, b6, b7, b8, b9, b10, b11, b12, b13, b14, b15, b16, b17, b18, b19, b20, b21, b22, b23, b24, b25, b26, b27, b28, b29) (hN.1 (by omega))
theorem cs_passF {fb fk fc : Int32} {a1 a2 a3 a4 a5 a6 a7 a8 a9 a10 a11 a12 a13 a14 a15 a16 a17 a18 a19 a20 a21 a22 a23 a24 a25 a26 a27 a28 a29 : Nat → Int32} {c fr to g T n K i : Nat} {d : Nat → Int32} {post : Int32 → St2 → Prop} (hP : cs_Pm c fr to g T n K) (hi : i + 1 = cs_m n) (hI : cs_I c fr to g T n K d i (K + i) fb fk fc a1 a2 a3 a4 a5 a6 a7 a8 a9 a10 a11 a12 a13 a14 a15 a16 a17 a18 a19 a20 a21 a22 a23 a24 a25 a26 a27 a28 a29) (hp : ∀ (gb gk gc : Int32) (b1 b2 b3 b4 b5 b6 b7 b8 b9 b10 b11 b12 b13 b14 b15 b16 b17 b18 b19 b20 b21 b22 b23 b24 b25 b26 b27 b28 b29 : Nat → Int32), cs_F c fr to n d (cs_er K T g (i + 1)) (K + i + 1) gb gk gc b1 b2 b3 b4 b5 b6 b7 b8 b9 b10 b11 b12 b13 b14 b15 b16 b17 b18 b19 b20 b21 b22 b23 b24 b25 b26 b27 b28 b29 → post (b29 4) (gb, gk, gc, b1, b2, b3, b4, b5, b6, b7, b8, b9, b10, b11, b12, b13, b14, b15, b16, b17, b18, b19, b20, b21, b22, b23, b24, b25, b26, b27, b28, b29)) : wpX_pass post (fb, fk, fc, a1, a2, a3, a4, a5, a6, a7, a8, a9, a10, a11, a12, a13, a14, a15, a16, a17, a18, a19, a20, a21, a22, a23, a24, a25, a26, a27, a28, a29) 1 := by
  have e29 : a29 4 = 0 := by
    obtain ⟨_, _, _, _, _, _, _, _, hC, _⟩ := hI
    exact hC.1
  unfold wpX_pass
  refine br_f (by decide) (br_t (by decide) (nm_r e29 ⟨2, ?_⟩))
  refine pk_le 1 0 (fun z => absurd z (by omega)) (fun _ => nm_e (cs_tickI hP (by omega) rfl (cs_Ik hI ?_) (fun gb gk gc b1 b2 b3 b4 b5 b6 b7 b8 b9 b10 b11 b12 b13 b14 b15 b16 b17 b18 b19 b20 b21 b22 b23 b24 b25 b26 b27 b28 b29 hN => ?_)))
  · rw [show fk = nI (K + i) from hI.2.1, nI_1]
  · refine pk_le 1 1 (fun _ => ?_) (fun z => absurd z (by omega))
    show post (b29 4 - 0) (gb, gk, gc, b1, b2, b3, b4, b5, b6, b7, b8, b9, b10, b11, b12, b13, b14, b15, b16, b17, b18, b19, b20, b21, b22, b23, b24, b25, b26, b27, b28, b29)
    rw [Int32.sub_zero]
    exact hp _ _ _ _ _ _ _ _ _ _ _ _ _ _ _ _ _ _ _ _ _ _ _ _ _ _ _ _ _ _ _ _ (hN.2 hi)
end
section
/-! the public methods, as the law calls them -/
theorem cs_ciC {post : Int32 → Prop} {p : Int32} (h0 : (p < 0 ∨ 8 ≤ p) → post 0) (h1 : ∀ c, c < 8 → p = nI c → post 1) : wpX_isCircuit post () p := by
  rcases pk_ix p (n := 8) (by omega) with h | h | ⟨c, hc, e⟩
  · exact cs_ciB (Or.inl h) (h0 (Or.inl h))
  · exact cs_ciB (Or.inr h) (h0 (Or.inr h))
  · have := h1 c hc e
    rw [e]
    exact cs_ci hc this
section
variable {fb fk fc : Int32} {a1 a2 a3 a4 a5 a6 a7 a8 a9 a10 a11 a12 a13 a14 a15 a16 a17 a18 a19 a20 a21 a22 a23 a24 a25 a26 a27 a28 a29 : Nat → Int32} {p x : Int32} {c s to : Nat}
theorem cs_wait0 {post : Int32 → Prop} {g : Int32} (hG : cs_G g p) (h1 : ∀ j, j < 8 → a1 j = 0) (hB : g = 0 → post (-1)) (hN : ¬ g = 0 → post (-2)) : wpX_waiting post (fb, fk, fc, a1, a2, a3, a4, a5, a6, a7, a8, a9, a10, a11, a12, a13, a14, a15, a16, a17, a18, a19, a20, a21, a22, a23, a24, a25, a26, a27, a28, a29) p := by
  unfold wpX_waiting
  rcases hG with ⟨e, h⟩ | ⟨e, c, hc, ep⟩
  · exact cs_ciB h (br_t rfl (hB e))
  · subst ep
    exact cs_ci hc (br_f cs_10 ⟨pk_in c 8 hc, br_t (cs_i0 (h1 c hc) (by omega)) (hN (by rw [e]; exact cs_10))⟩)
theorem cs_waitC {post : Int32 → Prop} (hc : c < 8) (h1 : a1 c = 0) (hp : post (-2)) : wpX_waiting post (fb, fk, fc, a1, a2, a3, a4, a5, a6, a7, a8, a9, a10, a11, a12, a13, a14, a15, a16, a17, a18, a19, a20, a21, a22, a23, a24, a25, a26, a27, a28, a29) (nI c) := by
  unfold wpX_waiting
  exact cs_ci hc (br_f cs_10 ⟨pk_in c 8 hc, br_t (cs_i0 h1 (by omega)) hp⟩)
theorem cs_waitO {post : Int32 → Prop} (hc : c < 8) (h1 : a1 c = 1) (h7 : a7 c = x) (hp : post x) : wpX_waiting post (fb, fk, fc, a1, a2, a3, a4, a5, a6, a7, a8, a9, a10, a11, a12, a13, a14, a15, a16, a17, a18, a19, a20, a21, a22, a23, a24, a25, a26, a27, a28, a29) (nI c) := by
  unfold wpX_waiting
  refine cs_ci hc (br_f cs_10 ⟨pk_in c 8 hc, br_f (by rw [cs_i0 h1 (by omega)]; exact cs_10) ⟨pk_in c 8 hc, ?_⟩⟩)
  rw [cs_i0 h7 (by omega)]
  exact hp
theorem cs_close0 {post : Int32 → St2 → Prop} {g : Int32} (hG : cs_G g p) (h1 : ∀ j, j < 8 → a1 j = 0) (hB : g = 0 → post (-1) (fb, fk, fc, a1, a2, a3, a4, a5, a6, a7, a8, a9, a10, a11, a12, a13, a14, a15, a16, a17, a18, a19, a20, a21, a22, a23, a24, a25, a26, a27, a28, a29)) (hN : ¬ g = 0 → post (-2) (fb, fk, fc, a1, a2, a3, a4, a5, a6, a7, a8, a9, a10, a11, a12, a13, a14, a15, a16, a17, a18, a19, a20, a21, a22, a23, a24, a25, a26, a27, a28, a29)) : wpX_close post (fb, fk, fc, a1, a2, a3, a4, a5, a6, a7, a8, a9, a10, a11, a12, a13, a14, a15, a16, a17, a18, a19, a20, a21, a22, a23, a24, a25, a26, a27, a28, a29) p := by
  unfold wpX_close
  rcases hG with ⟨e, h⟩ | ⟨e, c, hc, ep⟩
  · exact cs_ciB h (br_t rfl (hB e))
  · subst ep
    exact cs_ci hc (br_f cs_10 ⟨pk_in c 8 hc, br_t (cs_i0 (h1 c hc) (by omega)) (hN (by rw [e]; exact cs_10))⟩)
theorem cs_queued0 {post : Int32 → Prop} (hc : c < 8) (ht : to < 4) (h3 : a3 c = nI to) (h19 : a19 to = 0) (hp : post 0) : wpX_isQueued post (fb, fk, fc, a1, a2, a3, a4, a5, a6, a7, a8, a9, a10, a11, a12, a13, a14, a15, a16, a17, a18, a19, a20, a21, a22, a23, a24, a25, a26, a27, a28, a29) (nI c) := by
  unfold wpX_isQueued
  refine ⟨pk_in c 8 hc, nm_r (e' := nI to) (cs_i0 h3 (by omega)) ⟨1, pk_in to 4 ht, br_t ?_ hp⟩⟩
  rw [cs_i0 h19 (by omega)]
  exact Int32.le_refl _
theorem cs_close1 {post : Int32 → St2 → Prop} (hc : c < 8) (ht : to < 4) (h1 : a1 c = 1) (h3 : a3 c = nI to) (h19 : a19 to = 0) (h7 : a7 c = x) (hp : ∀ b11, post x (fb, fk, fc, upd a1 c 0, a2, a3, a4, a5, a6, a7, a8, a9, a10, b11, a12, a13, a14, a15, a16, a17, a18, a19, a20, a21, a22, a23, a24, upd a25 c 0, upd a26 c 0, a27, a28, a29)) : wpX_close post (fb, fk, fc, a1, a2, a3, a4, a5, a6, a7, a8, a9, a10, a11, a12, a13, a14, a15, a16, a17, a18, a19, a20, a21, a22, a23, a24, a25, a26, a27, a28, a29) (nI c) := by
  have ec : (nI c).toNatClampNeg = c := nI_clamp (by omega)
  unfold wpX_close
  refine cs_ci hc (br_f cs_10 ⟨pk_in c 8 hc, br_f (by rw [ec, h1]; exact cs_10) (cs_queued0 hc ht h3 h19 (br_t rfl ⟨pk_in c 8 hc, nm_e ⟨pk_in c 8 hc, pk_in c 8 hc, pk_in c 8 hc, nm_e (cs_forget hc ⟨pk_in c 8 hc, ?_⟩)⟩⟩))⟩)
  rw [ec, h7]
  exact hp _
theorem cs_post0 {post : Int32 → St2 → Prop} {g : Int32} (hG : cs_G g p) (h1 : ∀ j, j < 8 → a1 j = 0) (hB : g = 0 → post (-1) (fb, fk, fc, a1, a2, a3, a4, a5, a6, a7, a8, a9, a10, a11, a12, a13, a14, a15, a16, a17, a18, a19, a20, a21, a22, a23, a24, a25, a26, a27, a28, a29)) (hN : ¬ g = 0 → post (-2) (fb, fk, fc, a1, a2, a3, a4, a5, a6, a7, a8, a9, a10, a11, a12, a13, a14, a15, a16, a17, a18, a19, a20, a21, a22, a23, a24, a25, a26, a27, a28, a29)) : wpX_post post (fb, fk, fc, a1, a2, a3, a4, a5, a6, a7, a8, a9, a10, a11, a12, a13, a14, a15, a16, a17, a18, a19, a20, a21, a22, a23, a24, a25, a26, a27, a28, a29) p := by
  unfold wpX_post
  rcases hG with ⟨e, h⟩ | ⟨e, c, hc, ep⟩
  · exact cs_ciB h (br_t rfl (hB e))
  · subst ep
    exact cs_ci hc (br_f cs_10 ⟨pk_in c 8 hc, br_t (cs_i0 (h1 c hc) (by omega)) (hN (by rw [e]; exact cs_10))⟩)
theorem cs_postE {post : Int32 → St2 → Prop} (hc : c < 8) (h1 : a1 c = 1) (hb : fb = 0) (hp : post (-2) (fb, fk, fc, a1, a2, a3, a4, a5, a6, a7, a8, a9, a10, a11, a12, a13, a14, a15, a16, a17, a18, a19, a20, a21, a22, a23, a24, a25, a26, a27, a28, a29)) : wpX_post post (fb, fk, fc, a1, a2, a3, a4, a5, a6, a7, a8, a9, a10, a11, a12, a13, a14, a15, a16, a17, a18, a19, a20, a21, a22, a23, a24, a25, a26, a27, a28, a29) (nI c) := by
  unfold wpX_post
  exact cs_ci hc (br_f cs_10 ⟨pk_in c 8 hc, br_f (by rw [cs_i0 h1 (by omega)]; exact cs_10) (br_t hb hp)⟩)
theorem cs_post1 {post : Int32 → St2 → Prop} {n : Nat} (hc : c < 8) (hn1 : 1 ≤ n) (hn : n ≤ 27) (h1 : a1 c = 1) (hb : fb = nI n) (h7 : a7 c = 0) (hp : ∀ b9, (∀ j, j < n → b9 (27 * (2 * c) + j) = a13 j) → post (nI ((n + 12) / 8)) (0, fk, fc, a1, a2, a3, a4, a5, a6, upd a7 c 1, upd a8 (2 * c) (nI n), b9, a10, a11, a12, a13, a14, a15, a16, a17, a18, a19, a20, a21, a22, a23, a24, a25, a26, a27, a28, a29)) : wpX_post post (fb, fk, fc, a1, a2, a3, a4, a5, a6, a7, a8, a9, a10, a11, a12, a13, a14, a15, a16, a17, a18, a19, a20, a21, a22, a23, a24, a25, a26, a27, a28, a29) (nI c) := by
  subst hb
  have ec : (nI c).toNatClampNeg = c := nI_clamp (by omega)
  have e2 : 2 * nI c + a7 (nI c).toNatClampNeg = nI (2 * c) := by
    rw [ec, h7, show (2 : Int32) = nI 2 from rfl, pk_mul, show (0 : Int32) = nI 0 from rfl, nI_add]
    rfl
  unfold wpX_post
  refine cs_ci hc (br_f cs_10 ⟨pk_in c 8 hc, br_f (by rw [ec, h1]; exact cs_10) (br_f (nI_ne0 (by omega) (by omega)) ⟨pk_in c 8 hc, br_t (by rw [ec, h7]; decide) ⟨pk_in c 8 hc, nm_r e2 ⟨pk_in (2 * c) 16 (by omega), nm_r (e' := upd a8 (2 * c) (nI n)) (by rw [nI_clamp (by omega)]) ?_⟩⟩⟩)⟩)
  refine pk_loop (fun u i s => wX_post_64 post (nI c) (nI (2 * c)) (nI n) fk fc u (nI i) a1 a2 a3 a4 a5 a6 a7 (upd a8 (2 * c) (nI n)) s a10 a11 a12 a13 a14 a15 a16 a17 a18 a19 a20 a21 a22 a23 a24 a25 a26 a27 a28 a29) (fun i s => ∀ j, j < i → s (27 * (2 * c) + j) = a13 j) n 0 a9 (by omega) (fun j h => absurd h (by omega)) (fun u s hs => ?_) (fun u i s hi hs hw => ?_)
  · exact pk_le n n (fun _ => ⟨pk_in c 8 hc, pk_in c 8 hc, nm_r (e' := upd a7 c 1) (by rw [ec, h7]; rfl) (cs_co (by omega) (hp s hs))⟩) (fun z => absurd z (by omega))
  · refine pk_le n i (fun z => absurd z (by omega)) (fun _ => ?_)
    have e : 27 * nI (2 * c) + nI i = nI (27 * (2 * c) + i) := by
      rw [show (27 : Int32) = nI 27 from rfl, pk_mul, nI_add]
    rw [e]
    refine ⟨pk_in i 27 (by omega), pk_in (27 * (2 * c) + i) 432 (by omega), nm_e (nm_r (nI_1 i) (hw _ (fun j h => ?_)))⟩
    rw [nI_clamp (show 27 * (2 * c) + i < 2 ^ 31 by omega), nI_clamp (show i < 2 ^ 31 by omega)]
    by_cases e2 : j = i
    · rw [e2, pk_us]
    · rw [pk_un (by omega)]
      exact hs j (by omega)
theorem cs_que {post : Int32 → Prop} {g z : Int32} (hA : cs_A g p z) (h : ∀ s, s < 4 → a19 s = 0) (hp : post z) : wpX_queued post (fb, fk, fc, a1, a2, a3, a4, a5, a6, a7, a8, a9, a10, a11, a12, a13, a14, a15, a16, a17, a18, a19, a20, a21, a22, a23, a24, a25, a26, a27, a28, a29) p := by
  unfold wpX_queued
  rcases hA with ⟨_, e, h'⟩ | ⟨_, e, s, hs, ep⟩
  · rw [e] at hp
    exact cs_stB h' (br_t rfl hp)
  · subst ep
    refine cs_st hs (br_f cs_10 ⟨pk_in s 4 hs, ?_⟩)
    rw [cs_i0 (h s hs) (by omega), ← e]
    exact hp
theorem cs_inb {post : Int32 → Prop} {g z : Int32} (hA : cs_A g p z) (h : ∀ s, s < 4 → a21 s = 0) (hp : post z) : wpX_inbox post (fb, fk, fc, a1, a2, a3, a4, a5, a6, a7, a8, a9, a10, a11, a12, a13, a14, a15, a16, a17, a18, a19, a20, a21, a22, a23, a24, a25, a26, a27, a28, a29) p := by
  unfold wpX_inbox
  rcases hA with ⟨_, e, h'⟩ | ⟨_, e, s, hs, ep⟩
  · rw [e] at hp
    exact cs_stB h' (br_t rfl hp)
  · subst ep
    refine cs_st hs (br_f cs_10 ⟨pk_in s 4 hs, ?_⟩)
    rw [cs_i0 (h s hs) (by omega), ← e]
    exact hp
theorem cs_war {post : Int32 → Prop} {g z : Int32} (hA : cs_A g p z) (h : ∀ s, s < 4 → a18 s = 0) (hp : post z) : wpX_wary post (fb, fk, fc, a1, a2, a3, a4, a5, a6, a7, a8, a9, a10, a11, a12, a13, a14, a15, a16, a17, a18, a19, a20, a21, a22, a23, a24, a25, a26, a27, a28, a29) p := by
  unfold wpX_wary
  rcases hA with ⟨_, e, h'⟩ | ⟨_, e, s, hs, ep⟩
  · rw [e] at hp
    exact cs_stB h' (br_t rfl hp)
  · subst ep
    rw [e] at hp
    exact cs_st hs (br_f cs_10 ⟨pk_in s 4 hs, br_t (cs_i0 (h s hs) (by omega)) hp⟩)
theorem cs_fst0 {post : Int32 → Prop} {g z : Int32} (hA : cs_A g p z) (h : ∀ s, s < 4 → a21 s = 0) (hB : g = 0 → post (-1)) (hN : ¬ g = 0 → post (-2)) : wpX_first post (fb, fk, fc, a1, a2, a3, a4, a5, a6, a7, a8, a9, a10, a11, a12, a13, a14, a15, a16, a17, a18, a19, a20, a21, a22, a23, a24, a25, a26, a27, a28, a29) p := by
  unfold wpX_first
  rcases hA with ⟨e, _, h'⟩ | ⟨e, _, s, hs, ep⟩
  · exact cs_stB h' (br_t rfl (hB e))
  · subst ep
    exact cs_st hs (br_f cs_10 ⟨pk_in s 4 hs, br_t (cs_i0 (h s hs) (by omega)) (hN (by rw [e]; exact cs_10))⟩)
theorem cs_byt0 {post : Int32 → Prop} {g z : Int32} (hA : cs_A g p z) (h : ∀ s, s < 4 → a21 s = 0) (hB : g = 0 → post (-1)) (hN : ¬ g = 0 → post (-2)) : wpX_byteOf post (fb, fk, fc, a1, a2, a3, a4, a5, a6, a7, a8, a9, a10, a11, a12, a13, a14, a15, a16, a17, a18, a19, a20, a21, a22, a23, a24, a25, a26, a27, a28, a29) p x := by
  unfold wpX_byteOf
  rcases hA with ⟨e, _, h'⟩ | ⟨e, _, s, hs, ep⟩
  · exact cs_stB h' (br_t rfl (hB e))
  · subst ep
    exact cs_st hs (br_f cs_10 (nm_e ⟨pk_in s 4 hs, br_t (cs_i0 (h s hs) (by omega)) (hN (by rw [e]; exact cs_10))⟩))
theorem cs_tak0 {post : Int32 → St2 → Prop} {g z : Int32} (hA : cs_A g p z) (h : ∀ s, s < 4 → a21 s = 0) (hB : g = 0 → post (-1) (fb, fk, fc, a1, a2, a3, a4, a5, a6, a7, a8, a9, a10, a11, a12, a13, a14, a15, a16, a17, a18, a19, a20, a21, a22, a23, a24, a25, a26, a27, a28, a29)) (hN : ¬ g = 0 → post (-2) (fb, fk, fc, a1, a2, a3, a4, a5, a6, a7, a8, a9, a10, a11, a12, a13, a14, a15, a16, a17, a18, a19, a20, a21, a22, a23, a24, a25, a26, a27, a28, a29)) : wpX_take post (fb, fk, fc, a1, a2, a3, a4, a5, a6, a7, a8, a9, a10, a11, a12, a13, a14, a15, a16, a17, a18, a19, a20, a21, a22, a23, a24, a25, a26, a27, a28, a29) p := by
  unfold wpX_take
  exact cs_fst0 hA h (fun e => br_f (by decide) (hB e)) (fun e => br_f (by decide) (hN e))
theorem cs_fstE {post : Int32 → Prop} (hs : s < 4) (h : a21 s = 0) (hp : post (-2)) : wpX_first post (fb, fk, fc, a1, a2, a3, a4, a5, a6, a7, a8, a9, a10, a11, a12, a13, a14, a15, a16, a17, a18, a19, a20, a21, a22, a23, a24, a25, a26, a27, a28, a29) (nI s) := by
  unfold wpX_first
  exact cs_st hs (br_f cs_10 ⟨pk_in s 4 hs, br_t (cs_i0 h (by omega)) hp⟩)
theorem cs_fst1 {post : Int32 → Prop} {n : Nat} (hs : s < 4) (h : a21 s = 1) (h22 : a22 (4 * s) = nI c) (h23 : a23 (4 * s) = nI n) (hp : post (nI (32 * c + n))) : wpX_first post (fb, fk, fc, a1, a2, a3, a4, a5, a6, a7, a8, a9, a10, a11, a12, a13, a14, a15, a16, a17, a18, a19, a20, a21, a22, a23, a24, a25, a26, a27, a28, a29) (nI s) := by
  unfold wpX_first
  refine cs_st hs (br_f cs_10 ⟨pk_in s 4 hs, br_f (by rw [cs_i0 h (by omega)]; exact cs_10) ?_⟩)
  rw [show 4 * nI s = nI (4 * s) from pk_mul 4 s, cs_i0 h22 (by omega), cs_i0 h23 (by omega), show 32 * nI c = nI (32 * c) from pk_mul 32 c, nI_add]
  exact ⟨pk_in (4 * s) 16 (by omega), pk_in (4 * s) 16 (by omega), hp⟩
theorem cs_tak1 {post : Int32 → St2 → Prop} {n : Nat} (hs : s < 4) (hc : c < 8) (hn : n ≤ 27) (h : a21 s = 1) (h22 : a22 (4 * s) = nI c) (h23 : a23 (4 * s) = nI n) (hp : post (nI (32 * c + n)) (fb, fk, fc, a1, a2, a3, a4, a5, a6, a7, a8, a9, a10, a11, a12, a13, a14, a15, a16, a17, a18, a19, a20, upd a21 s 0, a22, a23, a24, a25, a26, a27, a28, a29)) : wpX_take post (fb, fk, fc, a1, a2, a3, a4, a5, a6, a7, a8, a9, a10, a11, a12, a13, a14, a15, a16, a17, a18, a19, a20, a21, a22, a23, a24, a25, a26, a27, a28, a29) (nI s) := by
  have es : (nI s).toNatClampNeg = s := nI_clamp (by omega)
  unfold wpX_take
  refine cs_fst1 hs h h22 h23 (br_t (nI_pos' (by omega)) ⟨pk_in s 4 hs, pk_in s 4 hs, nm_r (e' := upd a21 s 0) (by rw [es, h]; rfl) (nm_r (pk_mul 4 s) ⟨1, pk_in s 4 hs, br_t ?_ (nm_e ⟨1, pk_in s 4 hs, br_t ?_ hp⟩)⟩)⟩)
  · rw [es, pk_us, Int32.add_zero]
    exact Int32.le_refl _
  · rw [es, pk_us, Int32.add_zero]
    exact Int32.le_refl _
theorem cs_bytN {post : Int32 → Prop} {n : Nat} (hs : s < 4) (hn : n ≤ 27) (h : a21 s = 1) (h23 : a23 (4 * s) = nI n) (hx : x < 0 ∨ x = nI n) (hp : post (-2)) : wpX_byteOf post (fb, fk, fc, a1, a2, a3, a4, a5, a6, a7, a8, a9, a10, a11, a12, a13, a14, a15, a16, a17, a18, a19, a20, a21, a22, a23, a24, a25, a26, a27, a28, a29) (nI s) x := by
  have es : (nI s).toNatClampNeg = s := nI_clamp (by omega)
  unfold wpX_byteOf
  refine cs_st hs (br_f cs_10 (nm_r (pk_mul 4 s) ⟨pk_in s 4 hs, br_f (by rw [es, h]; exact cs_10) (br_c (fun _ => hp) (fun z => ⟨pk_in (4 * s) 16 (by omega), br_f ?_ hp⟩))⟩))
  rw [cs_i0 h23 (by omega)]
  rcases hx with e | e
  · exact absurd e z
  · rw [e]
    exact nI_nlt (by omega) (by omega)
theorem cs_byt1 {post : Int32 → Prop} {n j : Nat} (hs : s < 4) (hn : n ≤ 27) (hj : j < n) (h : a21 s = 1) (h23 : a23 (4 * s) = nI n) (h24 : a24 (108 * s + j) = x) (hp : post x) : wpX_byteOf post (fb, fk, fc, a1, a2, a3, a4, a5, a6, a7, a8, a9, a10, a11, a12, a13, a14, a15, a16, a17, a18, a19, a20, a21, a22, a23, a24, a25, a26, a27, a28, a29) (nI s) (nI j) := by
  have es : (nI s).toNatClampNeg = s := nI_clamp (by omega)
  unfold wpX_byteOf
  refine cs_st hs (br_f cs_10 (nm_r (pk_mul 4 s) ⟨pk_in s 4 hs, br_f (by rw [es, h]; exact cs_10) (br_f (nI_pos (by omega)) ⟨pk_in (4 * s) 16 (by omega), br_t (by rw [cs_i0 h23 (by omega)]; exact nI_lt hj (by omega)) ?_⟩)⟩))
  have e : 27 * nI (4 * s) + nI j = nI (108 * s + j) := by
    rw [show (27 : Int32) = nI 27 from rfl, pk_mul, nI_add]
    congr 1
    omega
  rw [e, cs_i0 h24 (by omega)]
  exact ⟨pk_in (108 * s + j) 432 (by omega), hp⟩
theorem cs_queS {post : Int32 → Prop} (hs : s < 4) (h : a19 s = x) (hp : post x) : wpX_queued post (fb, fk, fc, a1, a2, a3, a4, a5, a6, a7, a8, a9, a10, a11, a12, a13, a14, a15, a16, a17, a18, a19, a20, a21, a22, a23, a24, a25, a26, a27, a28, a29) (nI s) := by
  unfold wpX_queued
  refine cs_st hs (br_f cs_10 ⟨pk_in s 4 hs, ?_⟩)
  rw [cs_i0 h (by omega)]
  exact hp
theorem cs_inbS {post : Int32 → Prop} (hs : s < 4) (h : a21 s = x) (hp : post x) : wpX_inbox post (fb, fk, fc, a1, a2, a3, a4, a5, a6, a7, a8, a9, a10, a11, a12, a13, a14, a15, a16, a17, a18, a19, a20, a21, a22, a23, a24, a25, a26, a27, a28, a29) (nI s) := by
  unfold wpX_inbox
  refine cs_st hs (br_f cs_10 ⟨pk_in s 4 hs, ?_⟩)
  rw [cs_i0 h (by omega)]
  exact hp
theorem cs_warS {post : Int32 → Prop} (hs : s < 4) (h : a18 s = 0) (hp : post 0) : wpX_wary post (fb, fk, fc, a1, a2, a3, a4, a5, a6, a7, a8, a9, a10, a11, a12, a13, a14, a15, a16, a17, a18, a19, a20, a21, a22, a23, a24, a25, a26, a27, a28, a29) (nI s) := by
  unfold wpX_wary
  exact cs_st hs (br_f cs_10 ⟨pk_in s 4 hs, br_t (cs_i0 h (by omega)) hp⟩)
theorem cs_cntS {post : Int32 → Prop} {w : Nat} (hw : w < 7) (h : a29 w = x) (hp : post x) : wpX_counted post (fb, fk, fc, a1, a2, a3, a4, a5, a6, a7, a8, a9, a10, a11, a12, a13, a14, a15, a16, a17, a18, a19, a20, a21, a22, a23, a24, a25, a26, a27, a28, a29) (nI w) := by
  unfold wpX_counted
  refine br_f (nI_pos (by omega)) (br_t (nI_le (b := 6) (by omega) (by decide)) ⟨pk_in w 7 hw, ?_⟩)
  rw [cs_i0 h (by omega)]
  exact hp
theorem cs_7le {q : Int32} : 7 ≤ q ↔ ¬ q ≤ 6 := by
  rw [Int32.le_iff_toInt_le, Int32.le_iff_toInt_le, show (7 : Int32).toInt = 7 from rfl, show (6 : Int32).toInt = 6 from rfl]
  omega
theorem cs_4le {q : Int32} : 4 ≤ q ↔ ¬ q ≤ 3 := by
  rw [Int32.le_iff_toInt_le, Int32.le_iff_toInt_le, show (4 : Int32).toInt = 4 from rfl, show (3 : Int32).toInt = 3 from rfl]
  omega
theorem cs_256le {q : Int32} : 256 ≤ q ↔ ¬ q ≤ 255 := by
  rw [Int32.le_iff_toInt_le, Int32.le_iff_toInt_le, show (256 : Int32).toInt = 256 from rfl, show (255 : Int32).toInt = 255 from rfl]
  omega
theorem cs_41le {q : Int32} : 41 ≤ q ↔ ¬ q ≤ 40 := by
  rw [Int32.le_iff_toInt_le, Int32.le_iff_toInt_le, show (41 : Int32).toInt = 41 from rfl, show (40 : Int32).toInt = 40 from rfl]
  omega
theorem cs_200lt {q : Int32} : 200 < q ↔ ¬ q ≤ 200 := by
  rw [Int32.lt_iff_toInt_lt, Int32.le_iff_toInt_le]
  omega
theorem cs_16le {q : Int32} : 16 ≤ q ↔ 15 < q := by
  rw [Int32.le_iff_toInt_le, Int32.lt_iff_toInt_lt, show (16 : Int32).toInt = 16 from rfl, show (15 : Int32).toInt = 15 from rfl]
  omega
theorem cs_9le {q : Int32} : 9 ≤ q ↔ 8 < q := by
  rw [Int32.le_iff_toInt_le, Int32.lt_iff_toInt_lt, show (9 : Int32).toInt = 9 from rfl, show (8 : Int32).toInt = 8 from rfl]
  omega
theorem cs_cnt0 {post : Int32 → Prop} (h : ∀ j, j < 7 → a29 j = 0) (hB : (p < 0 ∨ 7 ≤ p) → post (-1)) (hN : ¬ p < 0 → ¬ 7 ≤ p → post 0) : wpX_counted post (fb, fk, fc, a1, a2, a3, a4, a5, a6, a7, a8, a9, a10, a11, a12, a13, a14, a15, a16, a17, a18, a19, a20, a21, a22, a23, a24, a25, a26, a27, a28, a29) p := by
  unfold wpX_counted
  refine br_c (fun z => hB (Or.inl z)) (fun z => br_c (fun z2 => ?_) (fun z2 => hB (Or.inr (cs_7le.mpr z2))))
  rcases nI_of2 (n := 6) (by rfl) z z2 with ⟨j, hj, e⟩
  have hN' := hN z (fun w => cs_7le.mp w z2)
  subst e
  refine ⟨pk_in j 7 (by omega), ?_⟩
  rw [cs_i0 (h j (by omega)) (by omega)]
  exact hN'
theorem cs_turB {post : Int32 → St2 → Prop} {p1 p2 : Int32} (h : (p < 0 ∨ 4 ≤ p) ∨ p1 < 0 ∨ 4 ≤ p1) (hp : post (-1) (fb, fk, fc, a1, a2, a3, a4, a5, a6, a7, a8, a9, a10, a11, a12, a13, a14, a15, a16, a17, a18, a19, a20, a21, a22, a23, a24, a25, a26, a27, a28, a29)) : wpX_turn post (fb, fk, fc, a1, a2, a3, a4, a5, a6, a7, a8, a9, a10, a11, a12, a13, a14, a15, a16, a17, a18, a19, a20, a21, a22, a23, a24, a25, a26, a27, a28, a29) p p1 p2 := by
  unfold wpX_turn
  rcases pk_ix p (n := 4) (by omega) with h0 | h0 | ⟨s, hs, e⟩
  · exact cs_stB (Or.inl h0) (br_t rfl hp)
  · exact cs_stB (Or.inr h0) (br_t rfl hp)
  · subst e
    refine cs_st hs (br_f cs_10 (br_c (fun _ => hp) (fun z => br_c (fun z2 => ?_) (fun _ => hp))))
    rcases h with h | h | h
    · rcases h with h | h
      · exact absurd h (nI_pos (by omega))
      · exact absurd h (nI_ge (b := 4) hs (by decide))
    · exact absurd h z
    · exact absurd z2 (cs_4le.mp h)
theorem cs_tur1 {post : Int32 → St2 → Prop} {p1 p2 : Int32} (hs : s < 4) (h0 : ¬ p1 < 0) (h1 : p1 ≤ 3) (hp : post 0 (fb, fk, fc, a1, a2, a3, a4, a5, a6, a7, a8, a9, a10, a11, a12, a13, a14, a15, upd a16 s p1, upd a17 s p2, a18, a19, a20, a21, a22, a23, a24, a25, a26, a27, a28, a29)) : wpX_turn post (fb, fk, fc, a1, a2, a3, a4, a5, a6, a7, a8, a9, a10, a11, a12, a13, a14, a15, a16, a17, a18, a19, a20, a21, a22, a23, a24, a25, a26, a27, a28, a29) (nI s) p1 p2 := by
  have es : (nI s).toNatClampNeg = s := nI_clamp (by omega)
  unfold wpX_turn
  rw [es]
  exact cs_st hs (br_f cs_10 (br_f h0 (br_t h1 ⟨pk_in s 4 hs, nm_e ⟨pk_in s 4 hs, nm_e hp⟩⟩)))
theorem cs_fil1 {post : Int32 → St2 → Prop} {b : Nat} (hb : fb = nI b) (hb2 : b < 27) (h0 : ¬ p < 0) (h1 : p ≤ 255) (hp : post (nI (b + 1)) (nI (b + 1), fk, fc, a1, a2, a3, a4, a5, a6, a7, a8, a9, a10, a11, a12, upd a13 b p, a14, a15, a16, a17, a18, a19, a20, a21, a22, a23, a24, a25, a26, a27, a28, a29)) : wpX_fill post (fb, fk, fc, a1, a2, a3, a4, a5, a6, a7, a8, a9, a10, a11, a12, a13, a14, a15, a16, a17, a18, a19, a20, a21, a22, a23, a24, a25, a26, a27, a28, a29) p := by
  subst hb
  unfold wpX_fill
  refine br_f h0 (br_t h1 (br_t (nI_lt (b := 27) hb2 (by decide)) ⟨pk_in b 27 hb2, nm_r (e' := upd a13 b p) (by rw [nI_clamp (by omega)]) (nm_r (nI_1 b) hp)⟩))
theorem cs_filB {post : Int32 → St2 → Prop} (h : p < 0 ∨ 256 ≤ p) (hp : post (-1) (fb, fk, fc, a1, a2, a3, a4, a5, a6, a7, a8, a9, a10, a11, a12, a13, a14, a15, a16, a17, a18, a19, a20, a21, a22, a23, a24, a25, a26, a27, a28, a29)) : wpX_fill post (fb, fk, fc, a1, a2, a3, a4, a5, a6, a7, a8, a9, a10, a11, a12, a13, a14, a15, a16, a17, a18, a19, a20, a21, a22, a23, a24, a25, a26, a27, a28, a29) p := by
  unfold wpX_fill
  refine br_c (fun _ => hp) (fun z => br_f ?_ hp)
  rcases h with h | h
  · exact absurd h z
  · exact cs_256le.mp h
theorem cs_filF {post : Int32 → St2 → Prop} (hb : fb = nI 27) (h0 : ¬ p < 0) (h1 : p ≤ 255) (hp : post (-3) (fb, fk, fc, a1, a2, a3, a4, a5, a6, a7, a8, a9, a10, a11, a12, a13, a14, a15, a16, a17, a18, a19, a20, a21, a22, a23, a24, a25, a26, a27, a28, a29)) : wpX_fill post (fb, fk, fc, a1, a2, a3, a4, a5, a6, a7, a8, a9, a10, a11, a12, a13, a14, a15, a16, a17, a18, a19, a20, a21, a22, a23, a24, a25, a26, a27, a28, a29) p := by
  subst hb
  unfold wpX_fill
  exact br_f h0 (br_t h1 (br_f (by decide) hp))
theorem cs_runB {post : Int32 → St2 → Prop} {p1 : Int32} (hp : post (-1) (fb, fk, fc, a1, a2, a3, a4, a5, a6, a7, a8, a9, a10, a11, a12, a13, a14, a15, a16, a17, a18, a19, a20, a21, a22, a23, a24, a25, a26, a27, a28, a29)) : wpX_run post (fb, fk, fc, a1, a2, a3, a4, a5, a6, a7, a8, a9, a10, a11, a12, a13, a14, a15, a16, a17, a18, a19, a20, a21, a22, a23, a24, a25, a26, a27, a28, a29) p p1 (-1) := by
  unfold wpX_run
  exact br_f (by decide) hp
theorem cs_runF {post : Int32 → St2 → Prop} {p1 : Int32} {b : Nat} (hb : fb = nI b) (hb2 : b ≤ 27) (hp : post (-3) (fb, fk, fc, a1, a2, a3, a4, a5, a6, a7, a8, a9, a10, a11, a12, a13, a14, a15, a16, a17, a18, a19, a20, a21, a22, a23, a24, a25, a26, a27, a28, a29)) : wpX_run post (fb, fk, fc, a1, a2, a3, a4, a5, a6, a7, a8, a9, a10, a11, a12, a13, a14, a15, a16, a17, a18, a19, a20, a21, a22, a23, a24, a25, a26, a27, a28, a29) p p1 28 := by
  subst hb
  unfold wpX_run
  refine br_t (by decide) (br_f ?_ hp)
  rw [show (27 : Int32) = nI 27 from rfl, pk_sub hb2]
  exact nI_ge (b := 28) (by omega) (by decide)
theorem cs_run1 {post : Int32 → St2 → Prop} {p1 : Int32} {b w : Nat} (hb : fb = nI b) (hw : b + w ≤ 27) (hp : ∀ b13, (∀ j, j < b → b13 j = a13 j) → (∀ j, j < w → b13 (b + j) = (p + p1 * nI j) &&& 255) → post (nI (b + w)) (nI (b + w), fk, fc, a1, a2, a3, a4, a5, a6, a7, a8, a9, a10, a11, a12, b13, a14, a15, a16, a17, a18, a19, a20, a21, a22, a23, a24, a25, a26, a27, a28, a29)) : wpX_run post (fb, fk, fc, a1, a2, a3, a4, a5, a6, a7, a8, a9, a10, a11, a12, a13, a14, a15, a16, a17, a18, a19, a20, a21, a22, a23, a24, a25, a26, a27, a28, a29) p p1 (nI w) := by
  subst hb
  unfold wpX_run
  refine br_t (nI_pos' (by omega)) (br_t ?_ ?_)
  · rw [show (27 : Int32) = nI 27 from rfl, pk_sub (by omega)]
    exact nI_le (by omega) (by omega)
  · refine pk_loop (fun u i s => wX_run_23 post p p1 (nI w) fk fc u (nI i) (nI (b + i)) a1 a2 a3 a4 a5 a6 a7 a8 a9 a10 a11 a12 s a14 a15 a16 a17 a18 a19 a20 a21 a22 a23 a24 a25 a26 a27 a28 a29) (fun i s => (∀ j, j < b → s j = a13 j) ∧ ∀ j, j < i → s (b + j) = (p + p1 * nI j) &&& 255) w 0 a13 (by omega) ⟨fun _ _ => rfl, fun j h => absurd h (by omega)⟩ (fun u s hs => pk_le w w (fun _ => hp s hs.1 hs.2) (fun z => absurd z (by omega))) (fun u i s hi hs hw2 => ?_)
    refine pk_le w i (fun z => absurd z (by omega)) (fun _ => ⟨pk_in (b + i) 27 (by omega), nm_r (e' := upd s (b + i) ((p + p1 * nI i) &&& 255)) (by rw [nI_clamp (by omega)]) (nm_r (nI_1 (b + i)) (nm_r (nI_1 i) (hw2 _ ⟨fun j h => ?_, fun j h => ?_⟩)))⟩)
    · rw [pk_un (by omega)]
      exact hs.1 j h
    · by_cases e : j = i
      · rw [e, pk_us]
      · rw [pk_un (by omega)]
        exact hs.2 j (by omega)
theorem cs_opnB {post : Int32 → St2 → Prop} {p1 p2 p3 : Int32} (h : (p < 0 ∨ 8 ≤ p) ∨ p1 < 0 ∨ 16 ≤ p1 ∨ p2 < 1 ∨ 9 ≤ p2 ∨ p3 < 0 ∨ 41 ≤ p3) (hp : post (-1) (fb, fk, fc, a1, a2, a3, a4, a5, a6, a7, a8, a9, a10, a11, a12, a13, a14, a15, a16, a17, a18, a19, a20, a21, a22, a23, a24, a25, a26, a27, a28, a29)) : wpX_open post (fb, fk, fc, a1, a2, a3, a4, a5, a6, a7, a8, a9, a10, a11, a12, a13, a14, a15, a16, a17, a18, a19, a20, a21, a22, a23, a24, a25, a26, a27, a28, a29) p p1 p2 p3 := by
  unfold wpX_open
  refine cs_ciC (fun _ => br_t rfl hp) (fun c hc e => br_f cs_10 (br_c (fun _ => hp) (fun z1 => br_c (fun _ => hp) (fun z2 => br_c (fun _ => hp) (fun z3 => br_c (fun _ => hp) (fun z4 => br_c (fun _ => hp) (fun z5 => br_f (fun z6 => ?_) hp)))))))
  rcases h with h | h | h | h | h | h | h
  · rcases h with h | h
    · rw [e] at h
      exact nI_pos (by omega) h
    · rw [e] at h
      exact nI_ge (b := 8) hc (by decide) h
  · exact z1 h
  · exact z2 (cs_16le.mp h)
  · exact z3 h
  · exact z4 (cs_9le.mp h)
  · exact z5 h
  · exact cs_41le.mp h z6
theorem cs_opnY {post : Int32 → St2 → Prop} (hc : c < 8) (h1 : a1 c = 1) (hp : post (-4) (fb, fk, fc, a1, a2, a3, a4, a5, a6, a7, a8, a9, a10, a11, a12, a13, a14, a15, a16, a17, a18, a19, a20, a21, a22, a23, a24, a25, a26, a27, a28, a29)) : wpX_open post (fb, fk, fc, a1, a2, a3, a4, a5, a6, a7, a8, a9, a10, a11, a12, a13, a14, a15, a16, a17, a18, a19, a20, a21, a22, a23, a24, a25, a26, a27, a28, a29) (nI c) 0 1 0 := by
  unfold wpX_open
  exact cs_ci hc (br_f cs_10 (br_f (by decide) (br_f (by decide) (br_f (by decide) (br_f (by decide) (br_f (by decide) (br_t (by decide) ⟨pk_in c 8 hc, br_f (by rw [cs_i0 h1 (by omega)]; exact cs_10) hp⟩)))))))
theorem cs_opn1 {post : Int32 → St2 → Prop} {e g T : Nat} (hc : c < 8) (he : e < 16) (hg1 : 1 ≤ g) (hg : g ≤ 8) (hT : T ≤ 40) (h1 : a1 c = 0) (hp : post 0 (fb, fk, fc, upd a1 c 1, upd a2 c (nI (e / 4)), upd a3 c (nI (e % 4)), upd a4 c (nI g), upd a5 c (nI T), upd a6 c 0, upd a7 c 0, a8, a9, upd a10 c 0, a11, upd a12 c (-1), a13, a14, a15, a16, a17, a18, a19, a20, a21, a22, a23, a24, upd a25 c 0, upd a26 c 0, a27, a28, a29)) : wpX_open post (fb, fk, fc, a1, a2, a3, a4, a5, a6, a7, a8, a9, a10, a11, a12, a13, a14, a15, a16, a17, a18, a19, a20, a21, a22, a23, a24, a25, a26, a27, a28, a29) (nI c) (nI e) (nI g) (nI T) := by
  have ec : (nI c).toNatClampNeg = c := nI_clamp (by omega)
  have ed : nI e / 4 = nI (e / 4) := pk_div (d := 4) (by omega) (by omega) (by omega)
  have er : nI e - nI e / 4 * 4 = nI (e % 4) := pk_rem (d := 4) (by omega) (by omega) (by omega)
  have v := pk_in (x := nI c) c 8 hc
  unfold wpX_open
  rw [ec, er, ed]
  exact cs_ci hc (br_f cs_10 (br_f (nI_pos (by omega)) (br_f (nI_nlt (a := 15) (by omega) (by decide)) (br_f (nI_nlt (b := 1) (by omega) (by omega)) (br_f (nI_nlt (a := 8) (by omega) (by decide)) (br_f (nI_pos (by omega)) (br_t (nI_le (b := 40) (by omega) (by decide)) ⟨v, br_t h1 ⟨v, nm_e ⟨by decide, v, nm_e ⟨by decide, v, nm_e ⟨v, nm_e ⟨v, nm_e ⟨v, nm_e ⟨v, nm_e ⟨v, nm_e ⟨v, nm_e (cs_forget hc hp)⟩⟩⟩⟩⟩⟩⟩⟩⟩⟩)))))))
end
end
section
/-! the law, from its end: what is asked when the frame has gone -/
section
variable {post : Int32 → St0 → Prop} {mc ms kc ks : Nat} {x0 x1 x2 x3 x5 x6 x7 x8 x9 x10 x11 x12 x13 x14 x15 x16 x17 x18 x19 x20 x21 x22 z0 z1 : Int32} {fb fk fc : Int32} {a1 a2 a3 a4 a5 a6 a7 a8 a9 a10 a11 a12 a13 a14 a15 a16 a17 a18 a19 a20 a21 a22 a23 a24 a25 a26 a27 a28 a29 : Nat → Int32} {c fr to n k w b : Nat} {d : Nat → Int32}
/-- the frame's bytes: had bytes of x3, then the run -/
def cl_D (x0 x1 x3 : Int32) (b w : Nat) (d : Nat → Int32) : Prop := (b = 1 → d 0 = x3) ∧ ∀ j, j < w → d (b + j) = (x0 + x1 * nI j) &&& 255
theorem cl_1131 (hp : post 1 ()) (hc : c < 8) (hfr : fr < 4) (hto : to < 4) (hb : b ≤ 1) (hw1 : 1 ≤ w) (hw : b + w ≤ 27) (hF : cs_F c fr to (b + w) d false k fb fk fc a1 a2 a3 a4 a5 a6 a7 a8 a9 a10 a11 a12 a13 a14 a15 a16 a17 a18 a19 a20 a21 a22 a23 a24 a25 a26 a27 a28 a29) (hd : cl_D x0 x1 x3 b w d) :
    ∃ fu, wL_lawOf_1131 post mc ms x0 x1 (nI c) (nI b) (nI to) (nI fr) (nI w) kc ks fb fk fc a1 a2 a3 a4 a5 a6 a7 a8 a9 a10 a11 a12 a13 a14 a15 a16 a17 a18 a19 a20 a21 a22 a23 a24 a25 a26 a27 a28 a29 fu 0 := by
  obtain ⟨eb, ek, ⟨h1, h1', h3⟩, hY, h19, h7, _, hG⟩ := hF
  obtain ⟨h21, h29, h22, h23, h24⟩ := hG rfl
  have e32 : 32 * nI c + nI b + nI w = nI (32 * c + (b + w)) := by
    rw [show (32 : Int32) = nI 32 from rfl, pk_mul, nI_add, nI_add, Nat.add_assoc]
  refine pk_loop (σ := Unit) (fun u i _ => wL_lawOf_1131 post mc ms x0 x1 (nI c) (nI b) (nI to) (nI fr) (nI w) kc ks fb fk fc a1 a2 a3 a4 a5 a6 a7 a8 a9 a10 a11 a12 a13 a14 a15 a16 a17 a18 a19 a20 a21 a22 a23 a24 a25 a26 a27 a28 a29 u (nI i)) (fun _ _ => True) w 0 () (by omega) trivial (fun u _ _ => ?_) (fun u i _ hi _ hw2 => ?_)
  · refine pk_le w w (fun _ => ?_) (fun z => absurd z (by omega))
    refine cs_queS hto (h19 to hto) (br_t rfl ?_)
    refine cs_warS hfr (hY.2.2 fr hfr) (br_t rfl ?_)
    refine cs_tak1 hto hc hw h21 h22 h23 (br_t e32.symm ?_)
    refine cs_inbS hto pk_us (br_t rfl ?_)
    refine cs_post1 (n := 1) hc (by omega) (by omega) h1 eb h7 (fun b9 _ => br_t rfl ?_)
    refine cs_close1 hc hto h1 h3 (h19 to hto) pk_us (fun b11 => br_t rfl ?_)
    have hall : ∀ j, j < 8 → upd a1 c 0 j = 0 := by
      intro j hj
      by_cases e : j = c
      · rw [e, pk_us]
      · rw [pk_un e]
        exact h1' j hj e
    refine cs_pass0 (t := 3) (by omega) ek (fun s hs => ⟨hY.1 s hs, fun j hj => Or.inl (hall j hj)⟩) h19 (br_t rfl ?_)
    exact cs_waitC hc (hall c hc) (br_t rfl hp)
  · refine pk_le w i (fun z => absurd z (by omega)) (fun _ => ?_)
    rw [nI_add b i]
    refine cs_byt1 (x := (x0 + x1 * nI i) &&& 255) hto hw (show b + i < b + w by omega) h21 h23 (by rw [h24 _ (by omega)]; exact hd.2 i hi) (br_t rfl (nm_r (nI_1 i) (hw2 () trivial)))
theorem cl_1001 {e : Bool} (hp : post 1 ()) (hc : c < 8) (hfr : fr < 4) (hto : to < 4) (hb : b ≤ 1) (hw1 : 1 ≤ w) (hw : b + w ≤ 27) (hF : cs_F c fr to (b + w) d e k fb fk fc a1 a2 a3 a4 a5 a6 a7 a8 a9 a10 a11 a12 a13 a14 a15 a16 a17 a18 a19 a20 a21 a22 a23 a24 a25 a26 a27 a28 a29) (hd : cl_D x0 x1 x3 b w d) (h22 : x22 = if e = true then 1 else 0) (hz : z1 = z0) :
    wL_lawOf_1001 post mc ms x0 x1 x3 (nI c) (nI b) (nI to) (nI fr) (nI w) x22 z0 z1 kc ks fb fk fc a1 a2 a3 a4 a5 a6 a7 a8 a9 a10 a11 a12 a13 a14 a15 a16 a17 a18 a19 a20 a21 a22 a23 a24 a25 a26 a27 a28 a29 := by
  have hF0 := hF
  obtain ⟨eb, ek, ⟨h1, h1', h3⟩, hY, h19, h7, hT, hG⟩ := hF
  have e32 : 32 * nI c + nI b + nI w = nI (32 * c + (b + w)) := by
    rw [show (32 : Int32) = nI 32 from rfl, pk_mul, nI_add, nI_add, Nat.add_assoc]
  unfold wL_lawOf_1001
  refine br_t hz ?_
  cases e with
  | false =>
    obtain ⟨h21, h29, h22', h23, h24⟩ := hG rfl
    have l := cl_1131 (mc := mc) (ms := ms) (kc := kc) (ks := ks) hp hc hfr hto hb hw1 hw hF0 hd
    rw [h22]
    refine br_t rfl ?_
    refine cs_fst1 hto h21 h22' h23 (br_t e32.symm ?_)
    refine cs_cntS (w := 4) (by omega) h29 (br_t rfl ?_)
    rw [nI_add b w]
    refine cs_bytN hto hw h21 h23 (Or.inr rfl) (br_t rfl ?_)
    refine cs_bytN hto hw h21 h23 (Or.inl (by decide)) (br_t rfl ?_)
    refine pk_eq b 1 (fun eb1 => ?_) (fun _ => l)
    exact cs_byt1 (j := 0) hto hw (by omega) h21 h23 (by rw [h24 0 (by omega)]; exact hd.1 eb1) (br_t rfl l)
  | true =>
    obtain ⟨h21, h29, v, v1, v2, v3⟩ := hT rfl
    rw [h22]
    refine br_f (by decide) ?_
    refine cs_cntS (w := 0) (by omega) v3 (br_f (nI_nle v1 (by omega)) ?_)
    refine cs_cntS (w := 4) (by omega) h29 (br_t rfl ?_)
    exact cs_fstE hto h21 (br_t rfl hp)
theorem cl_971 {e : Bool} (hp : post 1 ()) (hc : c < 8) (hfr : fr < 4) (hto : to < 4) (hb : b ≤ 1) (hw1 : 1 ≤ w) (hw : b + w ≤ 27) (hF : cs_F c fr to (b + w) d e k fb fk fc a1 a2 a3 a4 a5 a6 a7 a8 a9 a10 a11 a12 a13 a14 a15 a16 a17 a18 a19 a20 a21 a22 a23 a24 a25 a26 a27 a28 a29) (hd : cl_D x0 x1 x3 b w d) (h22 : x22 = if e = true then 1 else 0) (hz : z1 = z0) :
    wL_lawOf_971 post mc ms x0 x1 x3 (nI c) (nI b) (nI to) (nI fr) (nI w) x22 z0 z1 kc ks fb fk fc a1 a2 a3 a4 a5 a6 a7 a8 a9 a10 a11 a12 a13 a14 a15 a16 a17 a18 a19 a20 a21 a22 a23 a24 a25 a26 a27 a28 a29 := by
  have hF0 := hF
  obtain ⟨eb, ek, ⟨h1, h1', h3⟩, hY, h19, h7, hT, hG⟩ := hF
  unfold wL_lawOf_971
  refine br_t hz (cs_waitO hc h1 h7 (br_t rfl ?_))
  cases e with
  | false =>
    refine cs_inbS hto (hG rfl).1 (br_t h22 ?_)
    exact cl_1001 hp hc hfr hto hb hw1 hw hF0 hd h22 rfl
  | true =>
    refine cs_inbS hto (hT rfl).1 (br_f (by rw [h22]; decide) ?_)
    exact cl_1001 hp hc hfr hto hb hw1 hw hF0 hd h22 rfl
end
end
section
/-! the law: the frame's way; the circuit is opened -/
section
variable {post : Int32 → St0 → Prop} {mc ms kc ks : Nat} {x0 x1 x2 x3 x5 x6 x7 x8 x9 x10 x11 x12 x13 x14 x15 x16 x17 x18 x19 x20 x21 x22 z0 z1 : Int32} {fb fk fc : Int32} {a1 a2 a3 a4 a5 a6 a7 a8 a9 a10 a11 a12 a13 a14 a15 a16 a17 a18 a19 a20 a21 a22 a23 a24 a25 a26 a27 a28 a29 : Nat → Int32} {c fr to g T K w b : Nat} {d : Nat → Int32}
theorem cl_899 {J869 : Int32 → Int32 → Int32 → Prop} {i D : Nat} (hg : g ≤ 8) (hK : K ≤ 200) (hi : i < 4) (hD : D ≤ 1000) (hJ : J869 z0 (nI (max (K + i + 1) D + g)) (nI (i + 1 + 1))) :
    wL_lawOf_899 post mc ms J869 x0 x1 x3 (nI c) (nI b) (nI to) (nI fr) (nI w) (nI (cs_m (b + w))) (nI K) (nI g) (nI T) (nI D) (nI (i + 1)) z0 kc ks fb fk fc a1 a2 a3 a4 a5 a6 a7 a8 a9 a10 a11 a12 a13 a14 a15 a16 a17 a18 a19 a20 a21 a22 a23 a24 a25 a26 a27 a28 a29 := by
  unfold wL_lawOf_899
  rw [nI_add K (i + 1)]
  refine pk_le (K + (i + 1)) D (fun z => nm_r (nI_add D g) (nm_r (nI_1 (i + 1)) ?_)) (fun z => nm_r (nI_add (K + (i + 1)) g) (nm_r (nI_1 (i + 1)) ?_))
  · rw [show max (K + i + 1) D = D by omega] at hJ
    exact hJ
  · rw [show max (K + i + 1) D = K + (i + 1) by omega] at hJ
    exact hJ
theorem cl_869 (hp : post 1 ()) (hP : cs_Pm c fr to g T (b + w) K) (hb : b ≤ 1) (hw1 : 1 ≤ w) (hI : cs_I c fr to g T (b + w) K d 0 K fb fk fc a1 a2 a3 a4 a5 a6 a7 a8 a9 a10 a11 a12 a13 a14 a15 a16 a17 a18 a19 a20 a21 a22 a23 a24 a25 a26 a27 a28 a29) (hd : cl_D x0 x1 x3 b w d) :
    ∃ fu, wL_lawOf_869 post mc ms x0 x1 x3 (nI c) (nI b) (nI to) (nI fr) (nI w) (nI (cs_m (b + w))) (nI K) (nI g) (nI T) kc ks fb fk fc a1 a2 a3 a4 a5 a6 a7 a8 a9 a10 a11 a12 a13 a14 a15 a16 a17 a18 a19 a20 a21 a22 a23 a24 a25 a26 a27 a28 a29 fu 0 0 1 := by
  obtain ⟨hc, hfr, hto, hg, hT, hn1, hn, hK⟩ := id hP
  obtain ⟨m1, m2, m3, m4⟩ := cs_mb hn1 hn
  refine pk_loop (σ := Unit) (fun u i _ => wL_lawOf_869 post mc ms x0 x1 x3 (nI c) (nI b) (nI to) (nI fr) (nI w) (nI (cs_m (b + w))) (nI K) (nI g) (nI T) kc ks fb fk fc a1 a2 a3 a4 a5 a6 a7 a8 a9 a10 a11 a12 a13 a14 a15 a16 a17 a18 a19 a20 a21 a22 a23 a24 a25 a26 a27 a28 a29 u (if cs_er K T g i = true then 1 else 0) (nI (cs_due K g i)) (nI (i + 1))) (fun _ _ => True) (cs_m (b + w)) 0 () (by omega) trivial (fun u _ _ => ?_) (fun u i _ hi _ hw2 => ?_)
  · refine pk_lt (cs_m (b + w)) (cs_m (b + w) + 1) (fun _ => ?_) (fun z => absurd z (by omega))
    rw [show nI (cs_m (b + w)) - 1 = nI (cs_m (b + w) - 1) from pk_sub (b := 1) (by omega)]
    refine cs_passI hP hI (fun gb gk gc b1 b2 b3 b4 b5 b6 b7 b8 b9 b10 b11 b12 b13 b14 b15 b16 b17 b18 b19 b20 b21 b22 b23 b24 b25 b26 b27 b28 b29 hI2 => br_t rfl ?_)
    have hX : cs_X c fr to g T b1 b2 b3 b4 b5 := hI2.2.2.1
    have hF : cs_Fr c (b + w) d (cs_m (b + w) - 1) b7 b8 b9 b10 b11 := hI2.2.2.2.2.2.2.1
    refine cs_waitO hc hX.1 hF.1 (br_t rfl ?_)
    have hm : cs_m (b + w) - 1 + 1 = cs_m (b + w) := by omega
    refine cs_passF hP hm hI2 (fun (fb fk fc : Int32) (a1 a2 a3 a4 a5 a6 a7 a8 a9 a10 a11 a12 a13 a14 a15 a16 a17 a18 a19 a20 a21 a22 a23 a24 a25 a26 a27 a28 a29 : Nat → Int32) hF2 => ?_)
    rw [hm] at hF2
    cases he : cs_er K T g (cs_m (b + w)) with
    | false =>
      rw [he] at hF2
      obtain ⟨_, _, _, _, _, _, _, hG⟩ := id hF2
      refine br_t rfl ?_
      exact cl_971 hp hc hfr hto hb hw1 hn hF2 hd rfl (hG rfl).2.1
    | true =>
      rw [he] at hF2
      obtain ⟨_, _, _, _, _, _, hG, _⟩ := id hF2
      refine br_f (by decide) ?_
      exact cl_971 hp hc hfr hto hb hw1 hn hF2 hd rfl (hG rfl).2.1
  · have hw' := hw2 () trivial
    have hD := cs_dueB (K := K) hg i
    have eD : cs_due K g (i + 1) = max (K + i + 1) (cs_due K g i) + g := rfl
    have eE : cs_er K T g (i + 1) = (cs_er K T g i || decide (K + i + 1 + T < cs_due K g i)) := rfl
    rw [eD, eE] at hw'
    refine pk_lt (cs_m (b + w)) (i + 1) (fun z => absurd z (by omega)) (fun _ => ?_)
    cases he : cs_er K T g i with
    | true =>
      rw [he] at hw'
      refine br_f (by decide) ?_
      unfold wL_lawOf_894
      exact cl_899 hg hK (by omega) (by omega) hw'
    | false =>
      rw [he] at hw'
      refine br_t rfl ?_
      rw [nI_add K (i + 1)]
      refine ek_if (cs_subLe (by omega) (by omega) (by omega)) (fun z => ?_) (fun z => ?_)
      · rw [decide_eq_false (show ¬ K + i + 1 + T < cs_due K g i by omega)] at hw'
        exact cl_899 hg hK (by omega) (by omega) hw'
      · rw [decide_eq_true (show K + i + 1 + T < cs_due K g i by omega)] at hw'
        unfold wL_lawOf_894
        exact cl_899 hg hK (by omega) (by omega) hw'
/-- what the law takes for the circuit's ends and rates -/
def cl_Op (x14 x6 x7 x8 : Int32) (fr to g T : Nat) : Prop := (x14 = 0 ∧ fr = 0 ∧ to = 0 ∧ g = 1 ∧ T = 0) ∨ (x14 = 1 ∧ ∃ e, e < 16 ∧ x6 = nI e ∧ fr = e / 4 ∧ to = e % 4 ∧ x7 = nI g ∧ 1 ≤ g ∧ g ≤ 8 ∧ x8 = nI T ∧ T ≤ 40)
theorem cl_OpB (h : cl_Op x14 x6 x7 x8 fr to g T) : fr < 4 ∧ to < 4 ∧ g ≤ 8 ∧ T ≤ 40 := by
  rcases h with ⟨_, h1, h2, h3, h4⟩ | ⟨_, e, he, _, h1, h2, _, _, h3, _, h4⟩
  · omega
  · omega
/-- the circuit is open; b bytes lie in the buffer -/
def cl_O (c fr to g T K b : Nat) (x3 : Int32) (fb fk fc : Int32) (a1 a2 a3 a4 a5 a6 a7 a8 a9 a10 a11 a12 a13 a14 a15 a16 a17 a18 a19 a20 a21 a22 a23 a24 a25 a26 a27 a28 a29 : Nat → Int32) : Prop :=
  fb = nI b ∧ fk = nI K ∧ cs_X c fr to g T a1 a2 a3 a4 a5 ∧ cs_Y a15 a16 a18 ∧ (∀ s, s < 4 → a19 s = 0) ∧ (∀ s, s < 4 → a21 s = 0) ∧
  (a6 c = 0 ∧ a7 c = 0 ∧ a10 c = 0 ∧ a11 c = 0 ∧ a12 c = -1 ∧ a25 c = 0 ∧ a26 c = 0 ∧ a29 4 = 0 ∧ a29 0 = 0) ∧ (b = 1 → a13 0 = x3)
theorem cl_845 (hp : post 1 ()) (hO : cl_Op x14 x6 x7 x8 fr to g T) (hP : cs_Pm c fr to g T (b + w) K) (hb : b ≤ 1) (hw1 : 1 ≤ w) (hI : cs_I c fr to g T (b + w) K d 0 K fb fk fc a1 a2 a3 a4 a5 a6 a7 a8 a9 a10 a11 a12 a13 a14 a15 a16 a17 a18 a19 a20 a21 a22 a23 a24 a25 a26 a27 a28 a29) (hd : cl_D x0 x1 x3 b w d) (hz : z0 = nI g) :
    wL_lawOf_845 post mc ms x0 x1 x3 (nI c) x8 (nI b) x14 (nI to) (nI fr) (nI w) (nI (cs_m (b + w))) (nI K) z0 kc ks fb fk fc a1 a2 a3 a4 a5 a6 a7 a8 a9 a10 a11 a12 a13 a14 a15 a16 a17 a18 a19 a20 a21 a22 a23 a24 a25 a26 a27 a28 a29 := by
  have l := cl_869 (mc := mc) (ms := ms) (kc := kc) (ks := ks) hp hP hb hw1 hI hd
  unfold wL_lawOf_845
  rw [hz]
  rcases hO with ⟨h14, _, _, _, hT⟩ | ⟨h14, e, _, _, _, _, _, _, _, hT, _⟩
  · refine br_t h14 ?_
    rw [hT] at l
    exact l
  · refine br_f (by rw [h14]; exact cs_10) ?_
    rw [hT]
    exact l
theorem cl_722 (hp : post 1 ()) (hO : cl_Op x14 x6 x7 x8 fr to g T) (hc : c < 8) (hK : K ≤ 200) (hb : b ≤ 1) (hS : cl_O c fr to g T K b x3 fb fk fc a1 a2 a3 a4 a5 a6 a7 a8 a9 a10 a11 a12 a13 a14 a15 a16 a17 a18 a19 a20 a21 a22 a23 a24 a25 a26 a27 a28 a29) (hz : z0 = nI fr) :
    wL_lawOf_722 post mc ms x0 x1 x2 x3 (nI c) x7 x8 (nI b) x14 (nI to) z0 kc ks fb fk fc a1 a2 a3 a4 a5 a6 a7 a8 a9 a10 a11 a12 a13 a14 a15 a16 a17 a18 a19 a20 a21 a22 a23 a24 a25 a26 a27 a28 a29 := by
  obtain ⟨hfr, hto, hg, hT⟩ := cl_OpB hO
  obtain ⟨eb, ek, hX, hY, h19, h21, ⟨h6, h7, h10, h11, h12, h25, h26, h29, h290⟩, h13⟩ := hS
  obtain ⟨v, hv, ev⟩ := pk_andE (x2 >>> ((4 : Int32) &&& 31)) (m := 31) 5 (by decide)
  have e27 : 27 - nI b = nI (27 - b) := pk_sub (a := 27) (by omega)
  have hwl : v % (27 - b) < 27 - b := Nat.mod_lt _ (by omega)
  unfold wL_lawOf_722
  rw [e27, ev, hz]
  refine ⟨nI_ne0 (by omega) (by omega), nm_r (e' := nI (1 + v % (27 - b))) ?_ ?_⟩
  · rw [pk_rem (show v < 2 ^ 31 by omega) (by omega) (by omega)]
    exact nI_add 1 _
  · generalize hw : 1 + v % (27 - b) = w
    have hw1 : 1 ≤ w := by omega
    have hw2 : b + w ≤ 27 := by omega
    have e12 : (nI b + nI w + 12) / 8 = nI (cs_m (b + w)) := by
      rw [nI_add, show (12 : Int32) = nI 12 from rfl, nI_add]
      exact pk_div (d := 8) (by omega) (by omega) (by omega)
    rw [e12]
    refine cs_run1 eb hw2 (fun b13 hr1 hr2 => br_t (nI_add b w).symm ?_)
    refine cs_post1 (n := b + w) hc (by omega) hw2 hX.1 rfl h7 (fun b9 h9 => ⟨by decide, br_t rfl ?_⟩)
    refine cs_waitO hc hX.1 pk_us (br_t rfl ?_)
    refine cs_postE hc hX.1 rfl (br_t rfl ?_)
    refine cs_fil1 (b := 0) rfl (by omega) (by decide) (by decide) (br_t rfl ⟨by decide, nm_e ?_⟩)
    unfold wpX_time
    have hP : cs_Pm c fr to g T (b + w) K := ⟨hc, hfr, hto, hg, hT, by omega, hw2, hK⟩
    have hd : cl_D x0 x1 x3 b w b13 := by
      refine ⟨fun e1 => ?_, hr2⟩
      rw [hr1 0 (by omega)]
      exact h13 e1
    have hI : cs_I c fr to g T (b + w) K b13 0 K (nI 1) fk fc a1 a2 a3 a4 a5 a6 (upd a7 c 1) (upd a8 (2 * c) (nI (b + w))) b9 a10 a11 a12 (upd b13 0 7) a14 a15 a16 a17 a18 a19 a20 a21 a22 a23 a24 a25 a26 a27 a28 a29 := by
      refine ⟨rfl, ek, hX, hY, h19, h21, ⟨pk_us, pk_us, h9, h10, h11⟩, ⟨⟨0, by omega, h6, fun _ => rfl⟩, h12⟩, ⟨h29, fun z => absurd z (show ¬ false = true by decide), fun _ => h290⟩, 0, h25, h26, Or.inl rfl, fun _ => ⟨rfl, fun t ht => absurd ht (by omega)⟩, fun z => absurd z (show ¬ false = true by decide)⟩
    subst ek
    rcases id hO with ⟨h14, _, _, h1, _⟩ | ⟨h14, e, _, _, _, _, h1, _⟩
    · refine br_t h14 ?_
      exact cl_845 (x6 := x6) hp hO hP hb hw1 hI hd (by rw [h1]; rfl)
    · refine br_f (by rw [h14]; exact cs_10) ?_
      exact cl_845 (x6 := x6) hp hO hP hb hw1 hI hd h1
theorem cl_707 (hp : post 1 ()) (hO : cl_Op x14 x6 x7 x8 fr to g T) (hc : c < 8) (hK : K ≤ 200) (hb : b ≤ 1) (hS : cl_O c fr to g T K b x3 fb fk fc a1 a2 a3 a4 a5 a6 a7 a8 a9 a10 a11 a12 a13 a14 a15 a16 a17 a18 a19 a20 a21 a22 a23 a24 a25 a26 a27 a28 a29) (hz : z0 = nI to) :
    wL_lawOf_707 post mc ms x0 x1 x2 x3 (nI c) x6 x7 x8 (nI b) x14 z0 kc ks fb fk fc a1 a2 a3 a4 a5 a6 a7 a8 a9 a10 a11 a12 a13 a14 a15 a16 a17 a18 a19 a20 a21 a22 a23 a24 a25 a26 a27 a28 a29 := by
  unfold wL_lawOf_707
  rw [hz]
  rcases id hO with ⟨h14, h1, _⟩ | ⟨h14, e, he, e6, h1, _⟩
  · refine br_t h14 ?_
    exact cl_722 (x6 := x6) hp hO hc hK hb hS (by rw [h1]; rfl)
  · refine br_f (by rw [h14]; exact cs_10) ⟨by decide, ?_⟩
    refine cl_722 (x6 := x6) hp hO hc hK hb hS ?_
    rw [e6, h1]
    exact pk_div (d := 4) (by omega) (by omega) (by omega)
/-- good circuits, opened -/
theorem cl_650 (hp : post 1 ()) (hO : cl_Op x14 x6 x7 x8 fr to g T) (hc : c < 8) (hK : K ≤ 200) (hb : b ≤ 1) (hS : cl_O c fr to g T K b x3 fb fk fc a1 a2 a3 a4 a5 a6 a7 a8 a9 a10 a11 a12 a13 a14 a15 a16 a17 a18 a19 a20 a21 a22 a23 a24 a25 a26 a27 a28 a29) (h10 : x10 = 1) (hz : z1 = z0) :
    wL_lawOf_650 post mc ms x0 x1 x2 x3 (nI c) x6 x7 x8 x10 (nI b) x14 z0 z1 kc ks fb fk fc a1 a2 a3 a4 a5 a6 a7 a8 a9 a10 a11 a12 a13 a14 a15 a16 a17 a18 a19 a20 a21 a22 a23 a24 a25 a26 a27 a28 a29 := by
  unfold wL_lawOf_650
  refine br_t hz (br_f (by rw [h10]; exact cs_10) ?_)
  rcases id hO with ⟨h14, _, h1, _⟩ | ⟨h14, e, he, e6, _, h1, _⟩
  · refine br_t h14 ?_
    exact cl_707 hp hO hc hK hb hS (by rw [h1]; rfl)
  · refine br_f (by rw [h14]; exact cs_10) ⟨by decide, ?_⟩
    refine cl_707 hp hO hc hK hb hS ?_
    rw [e6, h1]
    exact pk_rem (d := 4) (by omega) (by omega) (by omega)
/-- a circuit that is none -/
theorem cl_650B (hp : post 1 ()) (hb : b ≤ 1) (eb : fb = nI b) (h10 : x10 = 0) (hz : z1 = z0) : wL_lawOf_650 post mc ms x0 x1 x2 x3 x5 x6 x7 x8 x10 (nI b) x14 z0 z1 kc ks fb fk fc a1 a2 a3 a4 a5 a6 a7 a8 a9 a10 a11 a12 a13 a14 a15 a16 a17 a18 a19 a20 a21 a22 a23 a24 a25 a26 a27 a28 a29 := by
  unfold wL_lawOf_650
  rw [show 27 - nI b = nI (27 - b) from pk_sub (a := 27) (by omega)]
  refine br_t hz (br_t h10 ?_)
  refine cs_run1 eb (by omega) (fun b13 _ _ => ?_)
  rw [show b + (27 - b) = 27 by omega]
  exact br_t rfl (cs_filF rfl (by decide) (by decide) (br_t rfl hp))
end
end
section
/-! the law: ahead of the open -/
/-- nothing is open yet; b bytes in the buffer, the clock at K -/
def cl_Z (b K : Nat) (fb fk fc : Int32) (a1 a2 a3 a4 a5 a6 a7 a8 a9 a10 a11 a12 a13 a14 a15 a16 a17 a18 a19 a20 a21 a22 a23 a24 a25 a26 a27 a28 a29 : Nat → Int32) : Prop :=
  fb = nI b ∧ fk = nI K ∧ (∀ j, j < 8 → a1 j = 0) ∧ (∀ j, j < 8 → a11 j = 0) ∧ (∀ s, s < 4 → a15 s = 7) ∧ (∀ s, s < 4 → a18 s = 0) ∧ (∀ s, s < 4 → a19 s = 0) ∧ (∀ s, s < 4 → a21 s = 0) ∧ (∀ j, j < 7 → a29 j = 0)
section
variable {post : Int32 → St0 → Prop} {mc ms kc ks : Nat} {x0 x1 x2 x3 x5 x6 x7 x8 x9 x10 x11 x12 x13 x14 z0 z1 : Int32} {fb fk fc : Int32} {a1 a2 a3 a4 a5 a6 a7 a8 a9 a10 a11 a12 a13 a14 a15 a16 a17 a18 a19 a20 a21 a22 a23 a24 a25 a26 a27 a28 a29 : Nat → Int32} {c K b : Nat}
theorem cl_ZO {e g T : Nat} (hc : c < 8) (hZ : cl_Z b K fb fk fc a1 a2 a3 a4 a5 a6 a7 a8 a9 a10 a11 a12 a13 a14 a15 a16 a17 a18 a19 a20 a21 a22 a23 a24 a25 a26 a27 a28 a29) (h16 : ∀ s, s < 4 → a16 s = 0) (h13 : b = 1 → a13 0 = x3) :
    cl_O c (e / 4) (e % 4) g T K b x3 fb fk fc (upd a1 c 1) (upd a2 c (nI (e / 4))) (upd a3 c (nI (e % 4))) (upd a4 c (nI g)) (upd a5 c (nI T)) (upd a6 c 0) (upd a7 c 0) a8 a9 (upd a10 c 0) a11 (upd a12 c (-1)) a13 a14 a15 a16 a17 a18 a19 a20 a21 a22 a23 a24 (upd a25 c 0) (upd a26 c 0) a27 a28 a29 := by
  obtain ⟨eb, ek, h1, h11, h15, h18, h19, h21, h29⟩ := hZ
  refine ⟨eb, ek, ⟨pk_us, fun j hj hne => ?_, pk_us, pk_us, pk_us, pk_us⟩, ⟨fun s hs => ⟨7, by omega, h15 s hs⟩, h16, h18⟩, h19, h21, ⟨pk_us, pk_us, pk_us, h11 c hc, pk_us, pk_us, pk_us, h29 4 (by omega), h29 0 (by omega)⟩, h13⟩
  rw [pk_un hne]
  exact h1 j hj
theorem cl_617a (hp : post 1 ()) (hb : b ≤ 1) (eb : fb = nI b) (h10 : x10 = 0) (h5 : x5 < 0 ∨ 8 ≤ x5) (hz : z1 = z0) : wL_lawOf_617 post mc ms x0 x1 x2 x3 x5 x6 x7 x8 x10 (nI b) 0 z0 z1 kc ks fb fk fc a1 a2 a3 a4 a5 a6 a7 a8 a9 a10 a11 a12 a13 a14 a15 a16 a17 a18 a19 a20 a21 a22 a23 a24 a25 a26 a27 a28 a29 := by
  unfold wL_lawOf_617
  refine br_t hz (cs_opnB (Or.inl h5) (br_t h10 ?_))
  exact cl_650B hp hb eb h10 rfl
theorem cl_617b (hp : post 1 ()) (hb : b ≤ 1) (hK : K ≤ 200) (hc : c < 8) (hZ : cl_Z b K fb fk fc a1 a2 a3 a4 a5 a6 a7 a8 a9 a10 a11 a12 a13 a14 a15 a16 a17 a18 a19 a20 a21 a22 a23 a24 a25 a26 a27 a28 a29) (h16 : ∀ s, s < 4 → a16 s = 0) (h13 : b = 1 → a13 0 = x3) (h10 : x10 = 1) (hz : z1 = z0) : wL_lawOf_617 post mc ms x0 x1 x2 x3 (nI c) x6 x7 x8 x10 (nI b) 0 z0 z1 kc ks fb fk fc a1 a2 a3 a4 a5 a6 a7 a8 a9 a10 a11 a12 a13 a14 a15 a16 a17 a18 a19 a20 a21 a22 a23 a24 a25 a26 a27 a28 a29 := by
  unfold wL_lawOf_617
  refine br_t hz (cs_opn1 (e := 0) (g := 1) (T := 0) hc (by omega) (by omega) (by omega) (by omega) (hZ.2.2.1 c hc) (br_f (by rw [h10]; exact cs_10) (br_t rfl ?_)))
  exact cl_650 hp (Or.inl ⟨rfl, rfl, rfl, rfl, rfl⟩) hc hK hb (cl_ZO (e := 0) (g := 1) (T := 0) hc hZ h16 h13) h10 rfl
theorem cl_617c {fr to g T : Nat} (hp : post 1 ()) (hO : cl_Op 1 x6 x7 x8 fr to g T) (hc : c < 8) (hK : K ≤ 200) (hb : b ≤ 1) (hS : cl_O c fr to g T K b x3 fb fk fc a1 a2 a3 a4 a5 a6 a7 a8 a9 a10 a11 a12 a13 a14 a15 a16 a17 a18 a19 a20 a21 a22 a23 a24 a25 a26 a27 a28 a29) (h10 : x10 = 1) (hz : z1 = z0) : wL_lawOf_617 post mc ms x0 x1 x2 x3 (nI c) x6 x7 x8 x10 (nI b) 1 z0 z1 kc ks fb fk fc a1 a2 a3 a4 a5 a6 a7 a8 a9 a10 a11 a12 a13 a14 a15 a16 a17 a18 a19 a20 a21 a22 a23 a24 a25 a26 a27 a28 a29 := by
  unfold wL_lawOf_617
  have hX : cs_X c fr to g T a1 a2 a3 a4 a5 := hS.2.2.1
  refine br_t hz (cs_opnY hc hX.1 (br_f (by rw [h10]; exact cs_10) (br_f cs_10 ?_)))
  exact cl_650 hp hO hc hK hb hS h10 rfl
theorem cl_587a (hp : post 1 ()) (hb : b ≤ 1) (hZ : cl_Z b K fb fk fc a1 a2 a3 a4 a5 a6 a7 a8 a9 a10 a11 a12 a13 a14 a15 a16 a17 a18 a19 a20 a21 a22 a23 a24 a25 a26 a27 a28 a29) (h10 : x10 = 0) (h5 : x5 < 0 ∨ 8 ≤ x5) (hz : z1 = z0) : wL_lawOf_587 post mc ms x0 x1 x2 x3 x5 x6 x7 x8 x10 (nI b) 0 z0 z1 kc ks fb fk fc a1 a2 a3 a4 a5 a6 a7 a8 a9 a10 a11 a12 a13 a14 a15 a16 a17 a18 a19 a20 a21 a22 a23 a24 a25 a26 a27 a28 a29 := by
  unfold wL_lawOf_587
  refine br_t hz (cs_wait0 (g := 0) (Or.inl ⟨rfl, h5⟩) hZ.2.2.1 (fun _ => br_t h10 ?_) (fun z => absurd rfl z))
  exact cl_617a hp hb hZ.1 h10 h5 rfl
theorem cl_587b (hp : post 1 ()) (hb : b ≤ 1) (hK : K ≤ 200) (hc : c < 8) (hZ : cl_Z b K fb fk fc a1 a2 a3 a4 a5 a6 a7 a8 a9 a10 a11 a12 a13 a14 a15 a16 a17 a18 a19 a20 a21 a22 a23 a24 a25 a26 a27 a28 a29) (h16 : ∀ s, s < 4 → a16 s = 0) (h13 : b = 1 → a13 0 = x3) (h10 : x10 = 1) (hz : z1 = z0) : wL_lawOf_587 post mc ms x0 x1 x2 x3 (nI c) x6 x7 x8 x10 (nI b) 0 z0 z1 kc ks fb fk fc a1 a2 a3 a4 a5 a6 a7 a8 a9 a10 a11 a12 a13 a14 a15 a16 a17 a18 a19 a20 a21 a22 a23 a24 a25 a26 a27 a28 a29 := by
  unfold wL_lawOf_587
  refine br_t hz (cs_waitC hc (hZ.2.2.1 c hc) (br_f (by rw [h10]; exact cs_10) (br_t rfl ?_)))
  exact cl_617b hp hb hK hc hZ h16 h13 h10 rfl
theorem cl_587c {fr to g T : Nat} (hp : post 1 ()) (hO : cl_Op 1 x6 x7 x8 fr to g T) (hc : c < 8) (hK : K ≤ 200) (hb : b ≤ 1) (hS : cl_O c fr to g T K b x3 fb fk fc a1 a2 a3 a4 a5 a6 a7 a8 a9 a10 a11 a12 a13 a14 a15 a16 a17 a18 a19 a20 a21 a22 a23 a24 a25 a26 a27 a28 a29) (h10 : x10 = 1) (hz : z1 = z0) : wL_lawOf_587 post mc ms x0 x1 x2 x3 (nI c) x6 x7 x8 x10 (nI b) 1 z0 z1 kc ks fb fk fc a1 a2 a3 a4 a5 a6 a7 a8 a9 a10 a11 a12 a13 a14 a15 a16 a17 a18 a19 a20 a21 a22 a23 a24 a25 a26 a27 a28 a29 := by
  unfold wL_lawOf_587
  have hX : cs_X c fr to g T a1 a2 a3 a4 a5 := hS.2.2.1
  obtain ⟨_, _, _, _, _, _, ⟨_, h7, _⟩, _⟩ := id hS
  refine br_t hz (cs_waitO hc hX.1 h7 (br_f (by rw [h10]; exact cs_10) (br_f cs_10 ?_)))
  exact cl_617c hp hO hc hK hb hS h10 rfl
/-- the open fails -/
theorem cl_561 (hp : post 1 ()) (hG : cs_G x10 x5) (hV : x10 = 0 ∨ x6 < 0 ∨ 16 ≤ x6 ∨ x7 < 1 ∨ 9 ≤ x7 ∨ x8 < 0 ∨ 41 ≤ x8) (hb : b ≤ 1) (hK : K ≤ 200) (hZ : cl_Z b K fb fk fc a1 a2 a3 a4 a5 a6 a7 a8 a9 a10 a11 a12 a13 a14 a15 a16 a17 a18 a19 a20 a21 a22 a23 a24 a25 a26 a27 a28 a29) (h16 : ∀ s, s < 4 → a16 s = 0) (h13 : b = 1 → a13 0 = x3) : wL_lawOf_561 post mc ms x0 x1 x2 x3 x5 x6 x7 x8 x10 (nI b) kc ks fb fk fc a1 a2 a3 a4 a5 a6 a7 a8 a9 a10 a11 a12 a13 a14 a15 a16 a17 a18 a19 a20 a21 a22 a23 a24 a25 a26 a27 a28 a29 := by
  unfold wL_lawOf_561
  unfold wL_lawOf_562
  rcases hG with ⟨h10, h5⟩ | ⟨h10, c, hc, e⟩
  · refine cs_opnB (Or.inl h5) (br_t rfl ?_)
    exact cl_587a hp hb hZ h10 h5 rfl
  · subst e
    refine cs_opnB (Or.inr (hV.resolve_left (by rw [h10]; exact cs_10))) (br_t rfl ?_)
    exact cl_587b hp hb hK hc hZ h16 h13 h10 rfl
/-- the open does not fail -/
theorem cl_562 {e g T : Nat} (hp : post 1 ()) (hc : c < 8) (h10 : x10 = 1) (he : e < 16) (hg1 : 1 ≤ g) (hg : g ≤ 8) (hT : T ≤ 40) (hb : b ≤ 1) (hK : K ≤ 200) (hZ : cl_Z b K fb fk fc a1 a2 a3 a4 a5 a6 a7 a8 a9 a10 a11 a12 a13 a14 a15 a16 a17 a18 a19 a20 a21 a22 a23 a24 a25 a26 a27 a28 a29) (h16 : ∀ s, s < 4 → a16 s = 0) (h13 : b = 1 → a13 0 = x3) : wL_lawOf_562 post mc ms x0 x1 x2 x3 (nI c) (nI e) (nI g) (nI T) x10 (nI b) 1 kc ks fb fk fc a1 a2 a3 a4 a5 a6 a7 a8 a9 a10 a11 a12 a13 a14 a15 a16 a17 a18 a19 a20 a21 a22 a23 a24 a25 a26 a27 a28 a29 := by
  unfold wL_lawOf_562
  refine cs_opn1 hc he hg1 hg hT (hZ.2.2.1 c hc) (br_f cs_10 ?_)
  exact cl_587c hp (Or.inr ⟨rfl, e, he, rfl, rfl, rfl, rfl, hg1, hg, rfl, hT⟩) hc hK hb (cl_ZO hc hZ h16 h13) h10 rfl
theorem cl_513 (hp : post 1 ()) (hG : cs_G x10 x5) (hb : b ≤ 1) (hK : K ≤ 200) (hZ : cl_Z b K fb fk fc a1 a2 a3 a4 a5 a6 a7 a8 a9 a10 a11 a12 a13 a14 a15 a16 a17 a18 a19 a20 a21 a22 a23 a24 a25 a26 a27 a28 a29) (h16 : ∀ s, s < 4 → a16 s = 0) (h13 : b = 1 → a13 0 = x3) : wL_lawOf_513 post mc ms x0 x1 x2 x3 x5 x6 x7 x8 x10 (nI b) kc ks fb fk fc a1 a2 a3 a4 a5 a6 a7 a8 a9 a10 a11 a12 a13 a14 a15 a16 a17 a18 a19 a20 a21 a22 a23 a24 a25 a26 a27 a28 a29 := by
  have l : (x10 = 0 ∨ x6 < 0 ∨ 16 ≤ x6 ∨ x7 < 1 ∨ 9 ≤ x7 ∨ x8 < 0 ∨ 41 ≤ x8) → wL_lawOf_561 post mc ms x0 x1 x2 x3 x5 x6 x7 x8 x10 (nI b) kc ks fb fk fc a1 a2 a3 a4 a5 a6 a7 a8 a9 a10 a11 a12 a13 a14 a15 a16 a17 a18 a19 a20 a21 a22 a23 a24 a25 a26 a27 a28 a29 := fun hV => cl_561 hp hG hV hb hK hZ h16 h13
  unfold wL_lawOf_513
  refine br_c (fun z => l (Or.inl z)) (fun z0 => br_c (fun z => l (Or.inr (Or.inl z))) (fun z1 => br_c (fun z => l (Or.inr (Or.inr (Or.inl z)))) (fun z2 => br_c (fun z => l (Or.inr (Or.inr (Or.inr (Or.inl z))))) (fun z3 => br_c (fun z => l (Or.inr (Or.inr (Or.inr (Or.inr (Or.inl z)))))) (fun z4 => br_c (fun z => l (Or.inr (Or.inr (Or.inr (Or.inr (Or.inr (Or.inl z))))))) (fun z5 => br_c (fun z => l (Or.inr (Or.inr (Or.inr (Or.inr (Or.inr (Or.inr z))))))) (fun z6 => ?_)))))))
  rcases hG with ⟨h10, _⟩ | ⟨h10, c, hc, e⟩
  · exact absurd h10 z0
  · rcases pk_ix x6 (n := 16) (by omega) with h | h | ⟨q, hq, e6⟩
    · exact absurd h z1
    · exact absurd h z2
    · rcases pk_ix x7 (n := 9) (by omega) with h | h | ⟨g, hg, e7⟩
      · refine absurd ?_ z3
        rw [Int32.lt_iff_toInt_lt] at h ⊢
        have h0 : (0 : Int32).toInt = 0 := rfl
        have h1 : (1 : Int32).toInt = 1 := rfl
        omega
      · exact absurd h z4
      · rcases pk_ix x8 (n := 41) (by omega) with h | h | ⟨T, hT, e8⟩
        · exact absurd h z5
        · exact absurd h z6
        · subst e e6 e7 e8
          have hg1 : 1 ≤ g := by
            rcases Nat.eq_zero_or_pos g with w | w
            · rw [w] at z3
              exact absurd (by decide) z3
            · exact w
          exact cl_562 hp hc h10 hq hg1 (by omega) (by omega) hb hK hZ h16 h13
theorem cl_466 (hp : post 1 ()) (hG : cs_G x10 x5) (hK : K ≤ 200) (hB : (b = 0 ∧ (x3 < 0 ∨ 256 ≤ x3)) ∨ (b = 1 ∧ ¬ x3 < 0 ∧ ¬ 256 ≤ x3 ∧ a13 0 = x3)) (hZ : cl_Z b K fb fk fc a1 a2 a3 a4 a5 a6 a7 a8 a9 a10 a11 a12 a13 a14 a15 a16 a17 a18 a19 a20 a21 a22 a23 a24 a25 a26 a27 a28 a29) (h16 : ∀ s, s < 4 → a16 s = 0) (hz : z1 = z0) : wL_lawOf_466 post mc ms x0 x1 x2 x3 x5 x6 x7 x8 x10 z0 z1 kc ks fb fk fc a1 a2 a3 a4 a5 a6 a7 a8 a9 a10 a11 a12 a13 a14 a15 a16 a17 a18 a19 a20 a21 a22 a23 a24 a25 a26 a27 a28 a29 := by
  unfold wL_lawOf_466
  refine br_t hz (cs_runB (br_t rfl (cs_runF hZ.1 (by omega) (br_t rfl ?_))))
  rcases hB with ⟨e, h⟩ | ⟨e, h1, h2, h3⟩
  · subst e
    have l : wL_lawOf_512 post mc ms x0 x1 x2 x3 x5 x6 x7 x8 x10 kc ks fb fk fc a1 a2 a3 a4 a5 a6 a7 a8 a9 a10 a11 a12 a13 a14 a15 a16 a17 a18 a19 a20 a21 a22 a23 a24 a25 a26 a27 a28 a29 := by
      unfold wL_lawOf_512
      exact cl_513 (b := 0) hp hG (by omega) hK hZ h16 (fun z => absurd z (by omega))
    refine br_c (fun _ => l) (fun z => br_t (h.resolve_left z) l)
  · subst e
    refine br_f h1 (br_f h2 ?_)
    exact cl_513 (b := 1) hp hG (by omega) hK hZ h16 (fun _ => h3)
theorem cl_444 (hp : post 1 ()) (hG : cs_G x10 x5) (hK : K ≤ 200) (hZ : cl_Z 0 K fb fk fc a1 a2 a3 a4 a5 a6 a7 a8 a9 a10 a11 a12 a13 a14 a15 a16 a17 a18 a19 a20 a21 a22 a23 a24 a25 a26 a27 a28 a29) (h16 : ∀ s, s < 4 → a16 s = 0) : wL_lawOf_444 post mc ms x0 x1 x2 x3 x5 x6 x7 x8 x10 kc ks fb fk fc a1 a2 a3 a4 a5 a6 a7 a8 a9 a10 a11 a12 a13 a14 a15 a16 a17 a18 a19 a20 a21 a22 a23 a24 a25 a26 a27 a28 a29 := by
  unfold wL_lawOf_444
  by_cases h1 : x3 < 0
  · refine cs_filB (Or.inl h1) (br_t h1 ?_)
    unfold wL_lawOf_465
    exact cl_466 hp hG hK (Or.inl ⟨rfl, Or.inl h1⟩) hZ h16 rfl
  · by_cases h2 : 256 ≤ x3
    · refine cs_filB (Or.inr h2) (br_f h1 (br_t h2 ?_))
      unfold wL_lawOf_465
      exact cl_466 hp hG hK (Or.inl ⟨rfl, Or.inr h2⟩) hZ h16 rfl
    · have h255 : x3 ≤ 255 := by
        rcases Decidable.em (x3 ≤ 255) with w | w
        · exact w
        · exact absurd (cs_256le.mpr w) h2
      obtain ⟨eb, r⟩ := hZ
      refine cs_fil1 eb (by omega) h1 h255 (br_f h1 (br_f h2 ?_))
      exact cl_466 (b := 1) hp hG hK (Or.inr ⟨rfl, h1, h2, pk_us⟩) ⟨rfl, r⟩ h16 rfl
theorem cl_422 {q : Int32} (hp : post 1 ()) (hG : cs_G x10 x5) (hA : cs_A x11 x9 q) (hK : K ≤ 200) (hZ : cl_Z 0 K fb fk fc a1 a2 a3 a4 a5 a6 a7 a8 a9 a10 a11 a12 a13 a14 a15 a16 a17 a18 a19 a20 a21 a22 a23 a24 a25 a26 a27 a28 a29) (h16 : ∀ s, s < 4 → (x11 = 1 ∧ x9 = nI s) ∨ a16 s = 0) (hz : z1 = z0) : wL_lawOf_422 post mc ms x0 x1 x2 x3 x5 x6 x7 x8 x9 x10 x11 z0 z1 kc ks fb fk fc a1 a2 a3 a4 a5 a6 a7 a8 a9 a10 a11 a12 a13 a14 a15 a16 a17 a18 a19 a20 a21 a22 a23 a24 a25 a26 a27 a28 a29 := by
  unfold wL_lawOf_422
  refine br_t hz ?_
  rcases hA with ⟨h11, _⟩ | ⟨h11, _, s, hs, e⟩
  · refine br_t h11 (cl_444 hp hG hK hZ (fun s hs => (h16 s hs).resolve_left (fun w => ?_)))
    rw [h11] at w
    exact absurd w.1 (by decide)
  · subst e
    refine br_f (by rw [h11]; exact cs_10) (cs_tur1 hs (by decide) (by decide) (br_t rfl ?_))
    refine cl_444 hp hG hK hZ (fun t ht => ?_)
    by_cases e : t = s
    · rw [e, pk_us]
    · rw [pk_un e]
      refine (h16 t ht).resolve_left (fun w => e ?_)
      exact ((nI_eq (by omega) (by omega)).mp w.2).symm
theorem cl_398 {q : Int32} (hp : post 1 ()) (hG : cs_G x10 x5) (hA : cs_A x11 x9 q) (hK : K ≤ 200) (hZ : cl_Z 0 K fb fk fc a1 a2 a3 a4 a5 a6 a7 a8 a9 a10 a11 a12 a13 a14 a15 a16 a17 a18 a19 a20 a21 a22 a23 a24 a25 a26 a27 a28 a29) (h16 : ∀ s, s < 4 → (x11 = 1 ∧ x9 = nI s) ∨ a16 s = 0) (hz : z1 = z0) : wL_lawOf_398 post mc ms x0 x1 x2 x3 x5 x6 x7 x8 x9 x10 x11 z0 z1 kc ks fb fk fc a1 a2 a3 a4 a5 a6 a7 a8 a9 a10 a11 a12 a13 a14 a15 a16 a17 a18 a19 a20 a21 a22 a23 a24 a25 a26 a27 a28 a29 := by
  unfold wL_lawOf_398
  obtain ⟨_, _, _, _, _, _, _, _, h29⟩ := id hZ
  have l : wL_lawOf_421 post mc ms x0 x1 x2 x3 x5 x6 x7 x8 x9 x10 x11 (-1) kc ks fb fk fc a1 a2 a3 a4 a5 a6 a7 a8 a9 a10 a11 a12 a13 a14 a15 a16 a17 a18 a19 a20 a21 a22 a23 a24 a25 a26 a27 a28 a29 := by
    unfold wL_lawOf_421
    exact cl_422 hp hG hA hK hZ h16 rfl
  refine br_t hz (cs_cnt0 h29 (fun h => br_c (fun _ => l) (fun z => br_t (h.resolve_left z) l)) (fun h1 h2 => br_f h1 (br_f h2 ?_)))
  exact cl_422 hp hG hA hK hZ h16 rfl
theorem cl_367 {q : Int32} (hp : post 1 ()) (hG : cs_G x10 x5) (hA : cs_A x11 x9 q) (hK : K ≤ 200) (hZ : cl_Z 0 K fb fk fc a1 a2 a3 a4 a5 a6 a7 a8 a9 a10 a11 a12 a13 a14 a15 a16 a17 a18 a19 a20 a21 a22 a23 a24 a25 a26 a27 a28 a29) (h16 : ∀ s, s < 4 → a16 s = 0) (hz : z1 = z0) : wL_lawOf_367 post mc ms x0 x1 x2 x3 x5 x6 x7 x8 x9 x10 x11 z0 z1 kc ks fb fk fc a1 a2 a3 a4 a5 a6 a7 a8 a9 a10 a11 a12 a13 a14 a15 a16 a17 a18 a19 a20 a21 a22 a23 a24 a25 a26 a27 a28 a29 := by
  unfold wL_lawOf_367
  refine br_t hz ?_
  have l : wL_lawOf_397 post mc ms x0 x1 x2 x3 x5 x6 x7 x8 x9 x10 x11 (-1) kc ks fb fk fc a1 a2 a3 a4 a5 a6 a7 a8 a9 a10 a11 a12 a13 a14 a15 a16 a17 a18 a19 a20 a21 a22 a23 a24 a25 a26 a27 a28 a29 := by
    unfold wL_lawOf_397
    exact cl_398 hp hG hA hK hZ (fun s hs => Or.inr (h16 s hs)) rfl
  rcases id hA with ⟨h11, _, h9⟩ | ⟨h11, _, s, hs, e⟩
  · exact cs_turB (Or.inl h9) (br_t h11 l)
  · by_cases h1 : x2 < 0
    · exact cs_turB (Or.inr (Or.inl h1)) (br_f (by rw [h11]; exact cs_10) (br_t h1 l))
    · by_cases h2 : 4 ≤ x2
      · exact cs_turB (Or.inr (Or.inr h2)) (br_f (by rw [h11]; exact cs_10) (br_f h1 (br_t h2 l)))
      · have h3 : x2 ≤ 3 := by
          rcases Decidable.em (x2 ≤ 3) with w | w
          · exact w
          · exact absurd (cs_4le.mpr w) h2
        subst e
        refine cs_tur1 hs h1 h3 (br_f (by rw [h11]; exact cs_10) (br_f h1 (br_f h2 ?_)))
        refine cl_398 hp hG hA hK hZ (fun t ht => ?_) rfl
        by_cases e : t = s
        · exact Or.inl ⟨h11, by rw [e]⟩
        · refine Or.inr ?_
          rw [pk_un e]
          exact h16 t ht
theorem cl_343 {q : Int32} (hp : post 1 ()) (hG : cs_G x10 x5) (hA : cs_A x11 x9 q) (hK : ((x3 < 0 ∨ 200 < x3) ∧ K = 0) ∨ (K ≤ 200 ∧ x3 = nI K)) (hZ : cl_Z 0 K fb fk fc a1 a2 a3 a4 a5 a6 a7 a8 a9 a10 a11 a12 a13 a14 a15 a16 a17 a18 a19 a20 a21 a22 a23 a24 a25 a26 a27 a28 a29) (h16 : ∀ s, s < 4 → a16 s = 0) (hz : z1 = z0) : wL_lawOf_343 post mc ms x0 x1 x2 x3 x5 x6 x7 x8 x9 x10 x11 z0 z1 kc ks fb fk fc a1 a2 a3 a4 a5 a6 a7 a8 a9 a10 a11 a12 a13 a14 a15 a16 a17 a18 a19 a20 a21 a22 a23 a24 a25 a26 a27 a28 a29 := by
  unfold wL_lawOf_343
  refine br_t hz ?_
  unfold wpX_time
  have ek : fk = nI K := hZ.2.1
  rcases hK with ⟨h, e⟩ | ⟨h, e⟩
  · have l : wL_lawOf_366 post mc ms x0 x1 x2 x3 x5 x6 x7 x8 x9 x10 x11 fk kc ks fb fk fc a1 a2 a3 a4 a5 a6 a7 a8 a9 a10 a11 a12 a13 a14 a15 a16 a17 a18 a19 a20 a21 a22 a23 a24 a25 a26 a27 a28 a29 := by
      unfold wL_lawOf_366
      refine cl_367 hp hG hA (show K ≤ 200 by omega) hZ h16 ?_
      rw [ek, e]
      rfl
    exact br_c (fun _ => l) (fun z => br_t (h.resolve_left z) l)
  · refine br_f (by rw [e]; exact nI_pos (by omega)) (br_f ?_ (cl_367 hp hG hA h hZ h16 (by rw [ek, e])))
    rw [e]
    exact nI_nlt (a := 200) (by omega) (by decide)
theorem cs_passB {ps : Int32 → St2 → Prop} {p : Int32} (h : p < 0 ∨ 200 < p) (hp : ps (-1) (fb, fk, fc, a1, a2, a3, a4, a5, a6, a7, a8, a9, a10, a11, a12, a13, a14, a15, a16, a17, a18, a19, a20, a21, a22, a23, a24, a25, a26, a27, a28, a29)) : wpX_pass ps (fb, fk, fc, a1, a2, a3, a4, a5, a6, a7, a8, a9, a10, a11, a12, a13, a14, a15, a16, a17, a18, a19, a20, a21, a22, a23, a24, a25, a26, a27, a28, a29) p := by
  unfold wpX_pass
  exact br_c (fun _ => hp) (fun z => br_f (cs_200lt.mp (h.resolve_left z)) hp)
theorem cl_296 (hp : post 1 ()) (hG : cs_G x10 x5) (hA : cs_A x11 x9 x12) (hZ : cl_Z 0 0 fb fk fc a1 a2 a3 a4 a5 a6 a7 a8 a9 a10 a11 a12 a13 a14 a15 a16 a17 a18 a19 a20 a21 a22 a23 a24 a25 a26 a27 a28 a29) (h16 : ∀ s, s < 4 → a16 s = 0) (hz : z1 = z0) : wL_lawOf_296 post mc ms x0 x1 x2 x3 x5 x6 x7 x8 x9 x10 x11 x12 z0 z1 kc ks fb fk fc a1 a2 a3 a4 a5 a6 a7 a8 a9 a10 a11 a12 a13 a14 a15 a16 a17 a18 a19 a20 a21 a22 a23 a24 a25 a26 a27 a28 a29 := by
  obtain ⟨eb, ek, h1, h11, h15, h18, h19, h21, h29⟩ := id hZ
  unfold wL_lawOf_296
  refine br_t hz (cs_war hA h18 (br_t rfl ?_))
  unfold wpX_time
  refine br_t ek ?_
  by_cases c1 : x3 < 0
  · refine cs_passB (Or.inl c1) (br_t c1 ?_)
    unfold wL_lawOf_342
    exact cl_343 hp hG hA (Or.inl ⟨Or.inl c1, rfl⟩) hZ h16 rfl
  · by_cases c2 : 200 < x3
    · refine cs_passB (Or.inr c2) (br_f c1 (br_t c2 ?_))
      unfold wL_lawOf_342
      exact cl_343 hp hG hA (Or.inl ⟨Or.inr c2, rfl⟩) hZ h16 rfl
    · have h200 : x3 ≤ 200 := by
        rcases Decidable.em (x3 ≤ 200) with w | w
        · exact w
        · exact absurd (cs_200lt.mpr w) c2
      obtain ⟨t, ht, e⟩ := nI_of2 (n := 200) rfl c1 h200
      subst e
      refine cs_pass0 (k := 0) ht ek (fun s hs => ⟨⟨7, by omega, h15 s hs⟩, fun j hj => Or.inl (h1 j hj)⟩) h19 (br_f c1 (br_f c2 ?_))
      refine cl_343 (K := t) hp hG hA (Or.inr ⟨ht, rfl⟩) ⟨eb, ?_, h1, h11, h15, h18, h19, h21, h29⟩ h16 rfl
      rw [Nat.zero_add]
theorem cl_275 (hp : post 1 ()) (hG : cs_G x10 x5) (hA : cs_A x11 x9 x12) (hZ : cl_Z 0 0 fb fk fc a1 a2 a3 a4 a5 a6 a7 a8 a9 a10 a11 a12 a13 a14 a15 a16 a17 a18 a19 a20 a21 a22 a23 a24 a25 a26 a27 a28 a29) (h16 : ∀ s, s < 4 → a16 s = 0) (hz : z1 = z0) : wL_lawOf_275 post mc ms x0 x1 x2 x3 x5 x6 x7 x8 x9 x10 x11 x12 z0 z1 kc ks fb fk fc a1 a2 a3 a4 a5 a6 a7 a8 a9 a10 a11 a12 a13 a14 a15 a16 a17 a18 a19 a20 a21 a22 a23 a24 a25 a26 a27 a28 a29 := by
  obtain ⟨eb, ek, h1, h11, h15, h18, h19, h21, h29⟩ := id hZ
  unfold wL_lawOf_275
  exact br_t hz (cs_tak0 hA h21 (fun z => br_t z (cl_296 hp hG hA hZ h16 rfl)) (fun z => br_f z (cl_296 hp hG hA hZ h16 rfl)))
theorem cl_253 (hp : post 1 ()) (hG : cs_G x10 x5) (hA : cs_A x11 x9 x12) (hZ : cl_Z 0 0 fb fk fc a1 a2 a3 a4 a5 a6 a7 a8 a9 a10 a11 a12 a13 a14 a15 a16 a17 a18 a19 a20 a21 a22 a23 a24 a25 a26 a27 a28 a29) (h16 : ∀ s, s < 4 → a16 s = 0) (hz : z1 = z0) : wL_lawOf_253 post mc ms x0 x1 x2 x3 x5 x6 x7 x8 x9 x10 x11 x12 z0 z1 kc ks fb fk fc a1 a2 a3 a4 a5 a6 a7 a8 a9 a10 a11 a12 a13 a14 a15 a16 a17 a18 a19 a20 a21 a22 a23 a24 a25 a26 a27 a28 a29 := by
  obtain ⟨eb, ek, h1, h11, h15, h18, h19, h21, h29⟩ := id hZ
  unfold wL_lawOf_253
  exact br_t hz (cs_byt0 hA h21 (fun z => br_t z (cl_275 hp hG hA hZ h16 rfl)) (fun z => br_f z (cl_275 hp hG hA hZ h16 rfl)))
theorem cl_208 (hp : post 1 ()) (hG : cs_G x10 x5) (hA : cs_A x11 x9 x12) (hZ : cl_Z 0 0 fb fk fc a1 a2 a3 a4 a5 a6 a7 a8 a9 a10 a11 a12 a13 a14 a15 a16 a17 a18 a19 a20 a21 a22 a23 a24 a25 a26 a27 a28 a29) (h16 : ∀ s, s < 4 → a16 s = 0) (hz : z1 = z0) : wL_lawOf_208 post mc ms x0 x1 x2 x3 x5 x6 x7 x8 x9 x10 x11 x12 z0 z1 kc ks fb fk fc a1 a2 a3 a4 a5 a6 a7 a8 a9 a10 a11 a12 a13 a14 a15 a16 a17 a18 a19 a20 a21 a22 a23 a24 a25 a26 a27 a28 a29 := by
  obtain ⟨eb, ek, h1, h11, h15, h18, h19, h21, h29⟩ := id hZ
  unfold wL_lawOf_208
  exact br_t hz (cs_que hA h19 (br_t rfl (cs_inb hA h21 (br_t rfl (cs_fst0 hA h21 (fun z => br_t z (cl_253 hp hG hA hZ h16 rfl)) (fun z => br_f z (cl_253 hp hG hA hZ h16 rfl)))))))
theorem cl_187 (hp : post 1 ()) (hG : cs_G x10 x5) (hA : cs_A x11 x9 x12) (hZ : cl_Z 0 0 fb fk fc a1 a2 a3 a4 a5 a6 a7 a8 a9 a10 a11 a12 a13 a14 a15 a16 a17 a18 a19 a20 a21 a22 a23 a24 a25 a26 a27 a28 a29) (h16 : ∀ s, s < 4 → a16 s = 0) (hz : z1 = z0) : wL_lawOf_187 post mc ms x0 x1 x2 x3 x5 x6 x7 x8 x9 x10 x11 x12 z0 z1 kc ks fb fk fc a1 a2 a3 a4 a5 a6 a7 a8 a9 a10 a11 a12 a13 a14 a15 a16 a17 a18 a19 a20 a21 a22 a23 a24 a25 a26 a27 a28 a29 := by
  unfold wL_lawOf_187
  exact br_t hz (cs_post0 hG hZ.2.2.1 (fun z => br_t z (cl_208 hp hG hA hZ h16 rfl)) (fun z => br_f z (cl_208 hp hG hA hZ h16 rfl)))
theorem cl_166 (hp : post 1 ()) (hG : cs_G x10 x5) (hA : cs_A x11 x9 x12) (hZ : cl_Z 0 0 fb fk fc a1 a2 a3 a4 a5 a6 a7 a8 a9 a10 a11 a12 a13 a14 a15 a16 a17 a18 a19 a20 a21 a22 a23 a24 a25 a26 a27 a28 a29) (h16 : ∀ s, s < 4 → a16 s = 0) (hz : z1 = z0) : wL_lawOf_166 post mc ms x0 x1 x2 x3 x5 x6 x7 x8 x9 x10 x11 x12 z0 z1 kc ks fb fk fc a1 a2 a3 a4 a5 a6 a7 a8 a9 a10 a11 a12 a13 a14 a15 a16 a17 a18 a19 a20 a21 a22 a23 a24 a25 a26 a27 a28 a29 := by
  unfold wL_lawOf_166
  exact br_t hz (cs_wait0 hG hZ.2.2.1 (fun z => br_t z (cl_187 hp hG hA hZ h16 rfl)) (fun z => br_f z (cl_187 hp hG hA hZ h16 rfl)))
theorem cl_146 (hp : post 1 ()) (hG : cs_G x10 x5) (hA : cs_A x11 x9 z0) (hZ : cl_Z 0 0 fb fk fc a1 a2 a3 a4 a5 a6 a7 a8 a9 a10 a11 a12 a13 a14 a15 a16 a17 a18 a19 a20 a21 a22 a23 a24 a25 a26 a27 a28 a29) (h16 : ∀ s, s < 4 → a16 s = 0) : wL_lawOf_146 post mc ms x0 x1 x2 x3 x5 x6 x7 x8 x9 x10 x11 z0 kc ks fb fk fc a1 a2 a3 a4 a5 a6 a7 a8 a9 a10 a11 a12 a13 a14 a15 a16 a17 a18 a19 a20 a21 a22 a23 a24 a25 a26 a27 a28 a29 := by
  unfold wL_lawOf_146
  exact cs_close0 hG hZ.2.2.1 (fun z => br_t z (cl_166 hp hG hA hZ h16 rfl)) (fun z => br_f z (cl_166 hp hG hA hZ h16 rfl))
theorem cl_116 (hp : post 1 ()) (hG : cs_G z0 x5) (hZ : cl_Z 0 0 fb fk fc a1 a2 a3 a4 a5 a6 a7 a8 a9 a10 a11 a12 a13 a14 a15 a16 a17 a18 a19 a20 a21 a22 a23 a24 a25 a26 a27 a28 a29) (h16 : ∀ s, s < 4 → a16 s = 0) : wL_lawOf_116 post mc ms x0 x1 x2 x3 x5 x6 x7 x8 x9 z0 kc ks fb fk fc a1 a2 a3 a4 a5 a6 a7 a8 a9 a10 a11 a12 a13 a14 a15 a16 a17 a18 a19 a20 a21 a22 a23 a24 a25 a26 a27 a28 a29 := by
  have l : (x9 < 0 ∨ 4 ≤ x9) → wL_lawOf_133 post mc ms x0 x1 x2 x3 x5 x6 x7 x8 x9 z0 kc ks fb fk fc a1 a2 a3 a4 a5 a6 a7 a8 a9 a10 a11 a12 a13 a14 a15 a16 a17 a18 a19 a20 a21 a22 a23 a24 a25 a26 a27 a28 a29 := by
    intro h
    unfold wL_lawOf_133
    unfold wL_lawOf_134
    exact br_t rfl (cl_146 hp hG (Or.inl ⟨rfl, rfl, h⟩) hZ h16)
  unfold wL_lawOf_116
  refine br_c (fun z => l (Or.inl z)) (fun z => br_c (fun z2 => l (Or.inr z2)) (fun z2 => ?_))
  rcases pk_ix x9 (n := 4) (by omega) with h | h | ⟨s, hs, e⟩
  · exact absurd h z
  · exact absurd h z2
  · unfold wL_lawOf_134
    exact br_f cs_10 (cl_146 hp hG (Or.inr ⟨rfl, rfl, s, hs, e⟩) hZ h16)
theorem cl_97 (hp : post 1 ()) (hZ : cl_Z 0 0 fb fk fc a1 a2 a3 a4 a5 a6 a7 a8 a9 a10 a11 a12 a13 a14 a15 a16 a17 a18 a19 a20 a21 a22 a23 a24 a25 a26 a27 a28 a29) (h16 : ∀ s, s < 4 → a16 s = 0) : wL_lawOf_97 post mc ms x0 x1 x2 x3 x5 x6 x7 x8 z0 kc ks fb fk fc a1 a2 a3 a4 a5 a6 a7 a8 a9 a10 a11 a12 a13 a14 a15 a16 a17 a18 a19 a20 a21 a22 a23 a24 a25 a26 a27 a28 a29 := by
  have l : (x5 < 0 ∨ 8 ≤ x5) → wL_lawOf_115 post mc ms x0 x1 x2 x3 x5 x6 x7 x8 z0 kc ks fb fk fc a1 a2 a3 a4 a5 a6 a7 a8 a9 a10 a11 a12 a13 a14 a15 a16 a17 a18 a19 a20 a21 a22 a23 a24 a25 a26 a27 a28 a29 := by
    intro h
    unfold wL_lawOf_115
    exact cl_116 hp (Or.inl ⟨rfl, h⟩) hZ h16
  unfold wL_lawOf_97
  refine br_c (fun z => l (Or.inl z)) (fun z => br_c (fun z2 => l (Or.inr z2)) (fun z2 => ?_))
  rcases pk_ix x5 (n := 8) (by omega) with h | h | ⟨s, hs, e⟩
  · exact absurd h z
  · exact absurd h z2
  · exact cl_116 hp (Or.inr ⟨rfl, s, hs, e⟩) hZ h16
theorem cl_25 (hp : post 1 ()) (hZ : cl_Z 0 0 fb fk fc a1 a2 a3 a4 a5 a6 a7 a8 a9 a10 a11 a12 a13 a14 a15 a16 a17 a18 a19 a20 a21 a22 a23 a24 a25 a26 a27 a28 a29) (h16 : ∀ s, s < 4 → a16 s = 0) : wL_lawOf_25 post mc ms x0 x1 x2 x3 z0 kc ks fb fk fc a1 a2 a3 a4 a5 a6 a7 a8 a9 a10 a11 a12 a13 a14 a15 a16 a17 a18 a19 a20 a21 a22 a23 a24 a25 a26 a27 a28 a29 := by
  unfold wL_lawOf_25
  have l43 : ∀ y0 y1, wL_lawOf_43 post mc ms x0 x1 x2 x3 y0 y1 kc ks fb fk fc a1 a2 a3 a4 a5 a6 a7 a8 a9 a10 a11 a12 a13 a14 a15 a16 a17 a18 a19 a20 a21 a22 a23 a24 a25 a26 a27 a28 a29 := by
    intro y0 y1
    unfold wL_lawOf_43
    have l61 : ∀ y2, wL_lawOf_61 post mc ms x0 x1 x2 x3 y0 y1 y2 kc ks fb fk fc a1 a2 a3 a4 a5 a6 a7 a8 a9 a10 a11 a12 a13 a14 a15 a16 a17 a18 a19 a20 a21 a22 a23 a24 a25 a26 a27 a28 a29 := by
      intro y2
      unfold wL_lawOf_61
      have l79 : ∀ y3, wL_lawOf_79 post mc ms x0 x1 x2 x3 y0 y1 y2 y3 kc ks fb fk fc a1 a2 a3 a4 a5 a6 a7 a8 a9 a10 a11 a12 a13 a14 a15 a16 a17 a18 a19 a20 a21 a22 a23 a24 a25 a26 a27 a28 a29 := by
        intro y3
        unfold wL_lawOf_79
        exact br_c (fun _ => cl_97 hp hZ h16) (fun _ => cl_97 hp hZ h16)
      exact br_c (fun _ => l79 _) (fun _ => l79 _)
    exact br_c (fun _ => l61 _) (fun _ => l61 _)
  exact br_c (fun _ => l43 _ _) (fun _ => l43 _ _)
end
end
section
/-! the object made; the law's entry -/
theorem cl_init {post : St2 → Prop} (hp : ∀ s, (∀ j, j < 4 → s j = 7) → post (0, 0, 0, (fun _ => 0), (fun _ => 0), (fun _ => 0), (fun _ => 0), (fun _ => 0), (fun _ => 0), (fun _ => 0), (fun _ => 0), (fun _ => 0), (fun _ => 0), (fun _ => 0), (fun _ => 0), (fun _ => 0), (fun _ => 0), s, (fun _ => 0), (fun _ => 0), (fun _ => 0), (fun _ => 0), (fun _ => 0), (fun _ => 0), (fun _ => 0), (fun _ => 0), (fun _ => 0), (fun _ => 0), (fun _ => 0), (fun _ => 0), (fun _ => 0), (fun _ => 0))) : wpX_init post 29 1630 (0, 0, 0) := by
  unfold wpX_init
  refine ⟨by omega, by omega, by omega, by omega, by omega, by omega, by omega, by omega, by omega, by omega, by omega, by omega, by omega, by omega, by omega, by omega, by omega, by omega, by omega, by omega, by omega, by omega, by omega, by omega, by omega, by omega, by omega, by omega, by omega, by omega, by omega, by omega, by omega, by omega, by omega, by omega, by omega, by omega, by omega, by omega, by omega, by omega, by omega, by omega, by omega, by omega, by omega, by omega, by omega, by omega, by omega, by omega, by omega, by omega, by omega, by omega, by omega, by omega, ?_⟩
  refine pk_loop (fun n i s => wX_init_236 post 29 1630 29 1630 0 0 0 n (nI i) ((fun _ => 0)) ((fun _ => 0)) ((fun _ => 0)) ((fun _ => 0)) ((fun _ => 0)) ((fun _ => 0)) ((fun _ => 0)) ((fun _ => 0)) ((fun _ => 0)) ((fun _ => 0)) ((fun _ => 0)) ((fun _ => 0)) ((fun _ => 0)) ((fun _ => 0)) s ((fun _ => 0)) ((fun _ => 0)) ((fun _ => 0)) ((fun _ => 0)) ((fun _ => 0)) ((fun _ => 0)) ((fun _ => 0)) ((fun _ => 0)) ((fun _ => 0)) ((fun _ => 0)) ((fun _ => 0)) ((fun _ => 0)) ((fun _ => 0)) ((fun _ => 0))) (fun i s => ∀ j, j < i → s j = 7) 4 0 (fun _ => 0) (by omega) (fun j h => absurd h (by omega)) (fun n s hs => pk_le 4 4 (fun _ => hp s hs) (fun z => absurd z (by omega))) (fun n i s hi hs hw => pk_le 4 i (fun z => absurd z (by omega)) (fun _ => ⟨pk_in i 4 hi, nm_e (nm_r (nI_1 i) (hw _ (fun j h => ?_)))⟩))
  rw [nI_clamp (by omega)]
  by_cases e : j = i
  · rw [e, pk_us]
  · rw [pk_un e]
    exact hs j (by omega)
theorem cl_lawOf {post : Int32 → St0 → Prop} (hp : post 1 ()) (p0 p1 p2 p3 : Int32) : wpL_lawOf post 886 14160 () p0 p1 p2 p3 := by
  unfold wpL_lawOf
  refine ⟨by omega, by omega, 29, 1630, by omega, by omega, cl_init (fun s hs => ?_)⟩
  have hZ : cl_Z 0 0 0 0 0 ((fun _ => 0)) ((fun _ => 0)) ((fun _ => 0)) ((fun _ => 0)) ((fun _ => 0)) ((fun _ => 0)) ((fun _ => 0)) ((fun _ => 0)) ((fun _ => 0)) ((fun _ => 0)) ((fun _ => 0)) ((fun _ => 0)) ((fun _ => 0)) ((fun _ => 0)) s ((fun _ => 0)) ((fun _ => 0)) ((fun _ => 0)) ((fun _ => 0)) ((fun _ => 0)) ((fun _ => 0)) ((fun _ => 0)) ((fun _ => 0)) ((fun _ => 0)) ((fun _ => 0)) ((fun _ => 0)) ((fun _ => 0)) ((fun _ => 0)) ((fun _ => 0)) := ⟨rfl, rfl, fun _ _ => rfl, fun _ _ => rfl, hs, fun _ _ => rfl, fun _ _ => rfl, fun _ _ => rfl, fun _ _ => rfl⟩
  exact br_c (fun _ => cl_25 hp hZ (fun _ _ => rfl)) (fun _ => cl_25 hp hZ (fun _ _ => rfl))
theorem cl_cell {post : Int32 → Prop} {L k : Nat} {xs : Nat → Int32} (hL : L ≤ 4) (hk : k < 4) (h : ∀ r, post r) : wpL_cellAt post L xs () (nI k) := by
  unfold wpL_cellAt
  refine pk_le L k (fun _ => h _) (fun z => ⟨pk_in k L z, h _⟩)
theorem i_vc (xs : Nat → Int32) (L : Nat) (hL : L ≤ 4) : wpL_law (fun r => r = 1) L xs := by
  unfold wpL_law
  refine cl_cell (k := 0) hL (by omega) (fun r1 => cl_cell (k := 1) hL (by omega) (fun r2 => cl_cell (k := 2) hL (by omega) (fun r3 => cl_cell (k := 3) hL (by omega) (fun r4 => ⟨886, 14160, by omega, by omega, ?_⟩))))
  exact cl_lawOf rfl r1 r2 r3 r4
end
