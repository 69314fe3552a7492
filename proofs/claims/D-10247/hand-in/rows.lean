section
/-! bits of an Int32 -/
def tc_bt (x : Int32) (i : Nat) : Bool := x.toBitVec.getLsbD i
theorem tc_bor (x y : Int32) (i : Nat) : tc_bt (x ||| y) i = (tc_bt x i || tc_bt y i) := by
  unfold tc_bt; rw [Int32.toBitVec_or, BitVec.getLsbD_or]
theorem tc_b0 (i : Nat) : tc_bt 0 i = false := BitVec.getLsbD_zero
theorem tc_sl : ∀ n, n < 32 → ((nI n &&& 31).toBitVec.smod 32).toNat = n := by decide +kernel
theorem tc_bone : ∀ n, n < 16 → ∀ i, i < 16 → tc_bt ((1 : Int32) <<< (nI n &&& 31)) i = decide (i = n) := by decide +kernel
theorem tc_shr (m : Int32) {x : Nat} (hx : x < 16) : (m >>> (nI x &&& 31)) &&& 1 = if tc_bt m x = true then 1 else 0 := by
  apply Int32.toBitVec_inj.mp
  rw [Int32.toBitVec_and, Int32.toBitVec_shiftRight]
  show (m.toBitVec.sshiftRight ((nI x &&& 31).toBitVec.smod 32).toNat) &&& 1#32 = _
  rw [tc_sl x (by omega), BitVec.and_one_eq_setWidth_ofBool_getLsbD, BitVec.getLsbD_sshiftRight]
  unfold tc_bt
  have h : x + 0 < 32 := by omega
  rw [Nat.add_zero]
  have h2 : x < 32 := by omega
  cases hb : m.toBitVec.getLsbD x
  · simp [hb, h2]
  · simp [hb, h2]
theorem tc_bit0 (m : Int32) {x : Nat} (hx : x < 16) : ((m >>> (nI x &&& 31)) &&& 1) = 0 ↔ tc_bt m x = false := by
  rw [tc_shr m hx]
  cases tc_bt m x
  · exact ⟨fun _ => rfl, fun _ => rfl⟩
  · exact ⟨fun z => absurd z (by decide), fun z => absurd z (by decide)⟩
theorem tc_bit1 (m : Int32) {x : Nat} (hx : x < 16) : ((m >>> (nI x &&& 31)) &&& 1) = 1 ↔ tc_bt m x = true := by
  rw [tc_shr m hx]
  cases tc_bt m x
  · exact ⟨fun z => absurd z (by decide), fun z => absurd z (by decide)⟩
  · exact ⟨fun _ => rfl, fun _ => rfl⟩
theorem tc_or0 (a b : Int32) : a ||| b = 0 ↔ a = 0 ∧ b = 0 := by
  constructor
  · intro h
    have e : ∀ i, (tc_bt a i || tc_bt b i) = false := fun i => by rw [← tc_bor, h, tc_b0]
    constructor
    · apply Int32.toBitVec_inj.mp
      apply BitVec.eq_of_getLsbD_eq
      intro i hi
      have h1 := e i
      rw [Bool.or_eq_false_iff] at h1
      exact h1.1.trans (tc_b0 i).symm
    · apply Int32.toBitVec_inj.mp
      apply BitVec.eq_of_getLsbD_eq
      intro i hi
      have h1 := e i
      rw [Bool.or_eq_false_iff] at h1
      exact h1.2.trans (tc_b0 i).symm
  · rintro ⟨rfl, rfl⟩
    decide
theorem tc_orz (a : Int32) : a ||| 0 = a := by
  apply Int32.toBitVec_inj.mp
  apply BitVec.eq_of_getLsbD_eq
  intro i hi
  show tc_bt (a ||| 0) i = tc_bt a i
  rw [tc_bor, tc_b0, Bool.or_false]
theorem tc_ora (a b c : Int32) : (a ||| b) ||| c = a ||| (b ||| c) := by
  apply Int32.toBitVec_inj.mp
  apply BitVec.eq_of_getLsbD_eq
  intro i hi
  show tc_bt ((a ||| b) ||| c) i = tc_bt (a ||| (b ||| c)) i
  rw [tc_bor, tc_bor, tc_bor, tc_bor, Bool.or_assoc]
theorem tc_sh0 : ∀ n, n < 4 → ¬ ((1 : Int32) <<< (nI n &&& 31)) = 0 := by decide +kernel
theorem tc_nar : ∀ n, n < 128 → (nI n).toInt8.toInt32 = nI n := by decide +kernel
theorem tc_inj {x y : Nat} (hx : x < 16) (hy : y < 16) (h : nI x = nI y) : x = y := (nI_eq (by omega) (by omega)).mp h
theorem tc_line (c : Nat) {x : Nat} (hx : x < 16) : (nI c * 4) + (nI x &&& 3) = nI (c * 4 + x % 4) := by
  rw [pk_andN (by omega) 2 (by decide), show (4 : Int32) = nI 4 from rfl, pk_mul, nI_add]
theorem tc_three (c l : Nat) : (nI c * 3) + nI l = nI (c * 3 + l) := by
  rw [show (3 : Int32) = nI 3 from rfl, pk_mul, nI_add]
theorem tc_six (g k : Nat) : (nI g * 16) + nI k = nI (g * 16 + k) := by
  rw [show (16 : Int32) = nI 16 from rfl, pk_mul, nI_add]
theorem tc_topi (c n : Nat) : ((nI c * 3) + nI (n + 1)) - 1 = nI (c * 3 + n) := by
  rw [tc_three, show c * 3 + (n + 1) = (c * 3 + n) + 1 from rfl, nI_pred]

/-! the caches: M memory, T tags, S states, D data, V the newest values -/
def tc_hold (T S : Nat → Int32) (c x : Nat) : Prop := ¬ S (c * 4 + x % 4) = 0 ∧ T (c * 4 + x % 4) = nI x
def tc_cok (M T S D V : Nat → Int32) : Prop :=
  (∀ c x, c < 4 → x < 16 → tc_hold T S c x → D (c * 4 + x % 4) = V x) ∧
  (∀ x, x < 16 → (∀ c, c < 4 → tc_hold T S c x → ¬ S (c * 4 + x % 4) = 3) → M x = V x) ∧
  (∀ c x, c < 4 → x < 16 → tc_hold T S c x → ¬ S (c * 4 + x % 4) = 1 → ∀ d, d < 4 → d ≠ c → ¬ tc_hold T S d x) ∧
  (∀ l, l < 16 → ¬ S l = 0 → ∃ t, t < 16 ∧ T l = nI t ∧ t % 4 = l % 4)
theorem tc_cok0 : tc_cok (fun _ => 0) (fun _ => 0) (fun _ => 0) (fun _ => 0) (fun _ => 0) :=
  ⟨fun _ _ _ _ h => absurd rfl h.1, fun _ _ _ => rfl, fun _ _ _ _ h => absurd rfl h.1, fun _ _ h => absurd rfl h⟩
theorem tc_hM {M T S D V : Nat → Int32} (h : tc_cok M T S D V) {c x : Nat} (hc : c < 4) (hx : x < 16) (hh : tc_hold T S c x) (h3 : ¬ S (c * 4 + x % 4) = 3) : M x = V x := by
  refine h.2.1 x hx (fun d hd hdh e => ?_)
  by_cases q : d = c
  · rw [q] at e; exact h3 e
  · exact h.2.2.1 d x hd hx hdh (by rw [e]; decide) c hc (Ne.symm q) hh
/-- a line written back: still in order, and memory has its cell -/
theorem tc_wb {M T S D V : Nat → Int32} (h : tc_cok M T S D V) {l t : Nat} (hl : l < 16) (h3 : S l = 3) (ht : t < 16) (hT : T l = nI t) : tc_cok (upd M t (D l)) T S D V ∧ D l = V t := by
  obtain ⟨t', ht', hT', hm⟩ := h.2.2.2 l hl (by rw [h3]; decide)
  have e : t' = t := tc_inj ht' ht (hT'.symm.trans hT)
  rw [e] at hm
  have el : l / 4 * 4 + t % 4 = l := by omega
  have hh : tc_hold T S (l / 4) t := by
    refine ⟨?_, ?_⟩
    · rw [el, h3]; decide
    · rw [el]; exact hT
  have hD : D l = V t := by
    have q := h.1 (l / 4) t (by omega) ht hh
    rw [el] at q; exact q
  refine ⟨⟨h.1, fun x hx hn => ?_, h.2.2.1, h.2.2.2⟩, hD⟩
  by_cases q : x = t
  · rw [q, pk_us, hD]
  · rw [pk_un q]; exact h.2.1 x hx hn
theorem tc_hold_sh {T S : Nat → Int32} {d x : Nat} (hh : tc_hold T S d x) (c y : Nat) : tc_hold T (upd S (d * 4 + x % 4) 1) c y ↔ tc_hold T S c y := by
  unfold tc_hold
  by_cases q : c * 4 + y % 4 = d * 4 + x % 4
  · rw [q, pk_us]
    exact ⟨fun z => ⟨hh.1, z.2⟩, fun z => ⟨by decide, z.2⟩⟩
  · rw [pk_un q]
theorem tc_share {M T S D V : Nat → Int32} (h : tc_cok M T S D V) {d x : Nat} (hd : d < 4) (hx : x < 16) (hh : tc_hold T S d x) (hM : M x = V x) : tc_cok M T (upd S (d * 4 + x % 4) 1) D V := by
  refine ⟨fun c y hc hy q => h.1 c y hc hy ((tc_hold_sh hh c y).mp q), fun y hy hn => ?_, fun c y hc hy q h1 e he hne z => ?_, fun l hl hs => ?_⟩
  · by_cases q : y = x
    · rw [q]; exact hM
    · refine h.2.1 y hy (fun c hc hch => ?_)
      have h1 := hn c hc ((tc_hold_sh hh c y).mpr hch)
      have hne : c * 4 + y % 4 ≠ d * 4 + x % 4 := by
        intro e
        have h2 := hch.2
        rw [e, hh.2] at h2
        exact q (tc_inj hx hy h2).symm
      rw [pk_un hne] at h1
      exact h1
  · have hne' : c * 4 + y % 4 ≠ d * 4 + x % 4 := by
      intro e
      rw [e, pk_us] at h1
      exact h1 rfl
    rw [pk_un hne'] at h1
    exact h.2.2.1 c y hc hy ((tc_hold_sh hh c y).mp q) h1 e he hne ((tc_hold_sh hh e y).mp z)
  · by_cases q : l = d * 4 + x % 4
    · exact h.2.2.2 l hl (by rw [q]; exact hh.1)
    · rw [pk_un q] at hs
      exact h.2.2.2 l hl hs
/-- a cell brought in -/
theorem tc_fin {M T S D V : Nat → Int32} {s : Int32} (h : tc_cok M T S D V) {c x : Nat} (hc : c < 4) (hx : x < 16) (hn : ¬ tc_hold T S c x) (hold : ∀ y, y < 16 → y % 4 = x % 4 → tc_hold T S c y → M y = V y)
    (hsh : ∀ d, d < 4 → d ≠ c → tc_hold T S d x → S (d * 4 + x % 4) = 1) (hs : s = 1 ∨ s = 2 ∧ ∀ d, d < 4 → d ≠ c → ¬ tc_hold T S d x) :
    tc_cok M (upd T (c * 4 + x % 4) (nI x)) (upd S (c * 4 + x % 4) s) (upd D (c * 4 + x % 4) (M x)) V ∧ tc_hold (upd T (c * 4 + x % 4) (nI x)) (upd S (c * 4 + x % 4) s) c x := by
  have s0 : ¬ s = 0 := by
    rcases hs with e | e
    · rw [e]; decide
    · rw [e.1]; decide
  have s3 : ¬ s = 3 := by
    rcases hs with e | e
    · rw [e]; decide
    · rw [e.1]; decide
  have hMx : M x = V x := by
    refine h.2.1 x hx (fun d hd hh e => ?_)
    by_cases q : d = c
    · rw [q] at hh; exact hn hh
    · have := hsh d hd q hh
      rw [this] at e
      exact absurd e (by decide)
  have hself : tc_hold (upd T (c * 4 + x % 4) (nI x)) (upd S (c * 4 + x % 4) s) c x := ⟨by rw [pk_us]; exact s0, by rw [pk_us]⟩
  have hK : ∀ d y, d < 4 → y < 16 → tc_hold (upd T (c * 4 + x % 4) (nI x)) (upd S (c * 4 + x % 4) s) d y → (d = c ∧ y = x) ∨ (d * 4 + y % 4 ≠ c * 4 + x % 4 ∧ tc_hold T S d y) := by
    intro d y hd hy hh
    by_cases q : d * 4 + y % 4 = c * 4 + x % 4
    · have h2 := hh.2
      rw [q, pk_us] at h2
      exact Or.inl ⟨by omega, (tc_inj hx hy h2).symm⟩
    · refine Or.inr ⟨q, ?_⟩
      have h1 := hh.1
      have h2 := hh.2
      rw [pk_un q] at h1 h2
      exact ⟨h1, h2⟩
  refine ⟨⟨fun d y hd hy hh => ?_, fun y hy hq => ?_, fun d y hd hy hh h1 e he hne z => ?_, fun l hl hl0 => ?_⟩, hself⟩
  · rcases hK d y hd hy hh with ⟨e1, e2⟩ | ⟨q, hh'⟩
    · rw [e1, e2, pk_us]; exact hMx
    · rw [pk_un q]; exact h.1 d y hd hy hh'
  · by_cases hyx : y = x
    · rw [hyx]; exact hMx
    · by_cases hcy : y % 4 = x % 4 ∧ tc_hold T S c y
      · exact hold y hy hcy.1 hcy.2
      · refine h.2.1 y hy (fun d hd hh => ?_)
        have q : d * 4 + y % 4 ≠ c * 4 + x % 4 := by
          intro e
          have e1 : d = c := by omega
          rw [e1] at hh
          exact hcy ⟨by omega, hh⟩
        have hh' : tc_hold (upd T (c * 4 + x % 4) (nI x)) (upd S (c * 4 + x % 4) s) d y := ⟨by rw [pk_un q]; exact hh.1, by rw [pk_un q]; exact hh.2⟩
        have h3 := hq d hd hh'
        rw [pk_un q] at h3
        exact h3
  · rcases hK d y hd hy hh with ⟨e1, e2⟩ | ⟨q, hh'⟩
    · rw [e1, e2, pk_us] at h1
      rcases hs with e3 | ⟨e3, e4⟩
      · exact h1 e3
      · rw [e2] at z
        rcases hK e x he hx z with ⟨e5, _⟩ | ⟨_, z'⟩
        · rw [e1] at hne; exact hne e5
        · rw [e1] at hne; exact e4 e he hne z'
    · rw [pk_un q] at h1
      rcases hK e y he hy z with ⟨e5, e6⟩ | ⟨_, z'⟩
      · rw [e6] at hh' h1
        rw [e5] at hne
        exact h1 (hsh d hd (Ne.symm hne) hh')
      · exact h.2.2.1 d y hd hy hh' h1 e he hne z'
  · by_cases q : l = c * 4 + x % 4
    · exact ⟨x, hx, by rw [q, pk_us], by omega⟩
    · rw [pk_un q] at hl0 ⊢
      exact h.2.2.2 l hl hl0
/-- another's copy taken away -/
theorem tc_hold_iv {T S : Nat → Int32} {d x c y : Nat} (h : tc_hold T (upd S (d * 4 + x % 4) 0) c y) : tc_hold T S c y ∧ c * 4 + y % 4 ≠ d * 4 + x % 4 := by
  have h1 := h.1
  by_cases q : c * 4 + y % 4 = d * 4 + x % 4
  · rw [q, pk_us] at h1
    exact absurd rfl h1
  · rw [pk_un q] at h1
    exact ⟨⟨h1, h.2⟩, q⟩
theorem tc_inv {M T S D V : Nat → Int32} (h : tc_cok M T S D V) {d x : Nat} (hd : d < 4) (hx : x < 16) (hh : tc_hold T S d x) (hM : M x = V x) : tc_cok M T (upd S (d * 4 + x % 4) 0) D V := by
  refine ⟨fun c y hc hy q => h.1 c y hc hy (tc_hold_iv q).1, fun y hy hn => ?_, fun c y hc hy q h1 e he hne z => ?_, fun l hl hs => ?_⟩
  · by_cases q : y = x
    · rw [q]; exact hM
    · refine h.2.1 y hy (fun c hc hch => ?_)
      have hne : c * 4 + y % 4 ≠ d * 4 + x % 4 := by
        intro e
        have h2 := hch.2
        rw [e, hh.2] at h2
        exact q (tc_inj hx hy h2).symm
      have h1 := hn c hc ⟨by rw [pk_un hne]; exact hch.1, hch.2⟩
      rw [pk_un hne] at h1
      exact h1
  · have q2 := tc_hold_iv q
    rw [pk_un q2.2] at h1
    exact h.2.2.1 c y hc hy q2.1 h1 e he hne (tc_hold_iv z).1
  · by_cases q : l = d * 4 + x % 4
    · rw [q, pk_us] at hs
      exact absurd rfl hs
    · rw [pk_un q] at hs
      exact h.2.2.2 l hl hs
/-- a value put into the only copy -/
theorem tc_put {M T S D V : Nat → Int32} (h : tc_cok M T S D V) {c x : Nat} (hc : c < 4) (hx : x < 16) (hh : tc_hold T S c x) (hal : ∀ d, d < 4 → d ≠ c → ¬ tc_hold T S d x) (v : Int32) :
    tc_cok M T (upd S (c * 4 + x % 4) 3) (upd D (c * 4 + x % 4) v) (upd V x v) := by
  have hK : ∀ d y, d < 4 → y < 16 → tc_hold T (upd S (c * 4 + x % 4) 3) d y → (d = c ∧ y = x) ∨ (y ≠ x ∧ d * 4 + y % 4 ≠ c * 4 + x % 4 ∧ tc_hold T S d y) := by
    intro d y hd hy hq
    by_cases q : d * 4 + y % 4 = c * 4 + x % 4
    · have h2 := hq.2
      rw [q, hh.2] at h2
      exact Or.inl ⟨by omega, (tc_inj hx hy h2).symm⟩
    · have h1 := hq.1
      rw [pk_un q] at h1
      have hq' : tc_hold T S d y := ⟨h1, hq.2⟩
      refine Or.inr ⟨fun e => ?_, q, hq'⟩
      rw [e] at hq' q
      exact hal d hd (fun e2 => q (by rw [e2])) hq'
  refine ⟨fun d y hd hy hq => ?_, fun y hy hq => ?_, fun d y hd hy hq h1 e he hne z => ?_, fun l hl hs => ?_⟩
  · rcases hK d y hd hy hq with ⟨e1, e2⟩ | ⟨e1, e2, e3⟩
    · rw [e1, e2, pk_us, pk_us]
    · rw [pk_un e2, pk_un e1]; exact h.1 d y hd hy e3
  · by_cases q : y = x
    · rw [q] at hq
      have := hq c hc ⟨by rw [pk_us]; decide, hh.2⟩
      rw [pk_us] at this
      exact absurd rfl this
    · rw [pk_un q]
      refine h.2.1 y hy (fun d hd hdh => ?_)
      have hne : d * 4 + y % 4 ≠ c * 4 + x % 4 := by
        intro e
        have h2 := hdh.2
        rw [e, hh.2] at h2
        exact q (tc_inj hx hy h2).symm
      have h3 := hq d hd ⟨by rw [pk_un hne]; exact hdh.1, hdh.2⟩
      rw [pk_un hne] at h3
      exact h3
  · rcases hK d y hd hy hq with ⟨e1, e2⟩ | ⟨e1, e2, e3⟩
    · rw [e2] at z
      rcases hK e x he hx z with ⟨e4, _⟩ | ⟨e4, _, _⟩
      · rw [e1] at hne; exact hne e4
      · exact e4 rfl
    · rw [pk_un e2] at h1
      rcases hK e y he hy z with ⟨_, e4⟩ | ⟨_, _, z'⟩
      · exact e1 e4
      · exact h.2.2.1 d y hd hy e3 h1 e he hne z'
  · by_cases q : l = c * 4 + x % 4
    · exact h.2.2.2 l hl (by rw [q]; exact hh.1)
    · rw [pk_un q] at hs
      exact h.2.2.2 l hl hs
end
section
section
variable {a1 a2 a3 a4 a5 a6 a7 a8 a9 a10 : Nat → Int32}
theorem tc_lineOf {post : Int32 → Prop} {c x : Nat} (hx : x < 16) (h : post (nI (c * 4 + x % 4))) : wpX_lineOf post () (nI c) (nI x) := by
  unfold wpX_lineOf
  rw [tc_line c hx]
  exact h
theorem tc_holds {post : Int32 → Prop} {c x : Nat} (hc : c < 4) (hx : x < 16) (h1 : tc_hold a2 a3 c x → post 1) (h0 : ¬ tc_hold a2 a3 c x → post 0) : wpX_holds post (a1, a2, a3, a4, a5, a6, a7, a8, a9, a10) (nI c) (nI x) := by
  unfold wpX_holds
  dsimp only
  refine tc_lineOf hx ?_
  rw [nI_clamp (show c * 4 + x % 4 < 2 ^ 31 by omega)]
  exact ⟨vp_in_nI (by omega) (by decide), br_c (fun h => h0 (fun z => z.1 h)) (fun h => ⟨vp_in_nI (by omega) (by decide), br_c (fun h2 => h1 ⟨h, h2⟩) (fun h2 => h0 (fun z => h2 z.2))⟩)⟩
theorem tc_newest {post : Int32 → Prop} {V : Nat → Int32} {x : Nat} (hk : tc_cok a1 a2 a3 a4 V) (hx : x < 16) (hp : post (V x)) : wpX_newest post (a1, a2, a3, a4, a5, a6, a7, a8, a9, a10) (nI x) := by
  refine pk_loop (σ := Unit) (fun n i _ => wX_newest_2 post (nI x) a1 a2 a3 a4 a5 a6 a7 a8 a9 a10 n (nI i)) (fun i _ => ∀ d, d < i → tc_hold a2 a3 d x → ¬ a3 (d * 4 + x % 4) = 3) 4 0 () (by omega) (fun d hd => absurd hd (by omega)) ?_ ?_
  · intro n _ h
    refine pk_le 4 4 (fun _ => ⟨pk_in x 16 hx, ?_⟩) (fun z => absurd z (by omega))
    rw [nI_clamp (show x < 2 ^ 31 by omega), hk.2.1 x hx h]
    exact hp
  · intro n i _ hi h hw
    refine pk_le 4 i (fun z => absurd z (by omega)) (fun _ => ?_)
    refine tc_lineOf hx ?_
    rw [nI_clamp (show i * 4 + x % 4 < 2 ^ 31 by omega)]
    refine tc_holds hi hx (fun g => br_f (by decide) ⟨vp_in_nI (by omega) (by decide), br_c (fun e => ⟨vp_in_nI (by omega) (by decide), ?_⟩) (fun e => nm_r (nI_1 i) (hw () ?_))⟩) (fun g => br_t rfl (nm_r (nI_1 i) (hw () ?_)))
    · rw [hk.1 i x hi hx g]; exact hp
    · intro d hd hh
      rcases Nat.lt_or_ge d i with q | q
      · exact h d q hh
      · rw [show d = i by omega]; exact e
    · intro d hd hh
      rcases Nat.lt_or_ge d i with q | q
      · exact h d q hh
      · rw [show d = i by omega] at hh; exact absurd hh g
theorem tc_writeBack {post : St1 → Prop} {l : Nat} (hl : l < 16) (ht : a3 l = 3 → ∃ t, t < 16 ∧ a2 l = nI t) (h3 : a3 l = 3 → ∀ t, t < 16 → a2 l = nI t → post (upd a1 t (a4 l), a2, a3, a4, a5, a6, a7, a8, a9, a10))
    (h0 : ¬ a3 l = 3 → post (a1, a2, a3, a4, a5, a6, a7, a8, a9, a10)) : wpX_writeBack post (a1, a2, a3, a4, a5, a6, a7, a8, a9, a10) (nI l) := by
  unfold wpX_writeBack
  dsimp only
  rw [nI_clamp (show l < 2 ^ 31 by omega)]
  refine ⟨pk_in l 16 hl, br_c (fun h => ?_) h0⟩
  obtain ⟨t, ht1, ht2⟩ := ht h
  exact ⟨pk_in l 16 hl, pk_in l 16 hl, pk_in t 16 ht1 ht2, nm_r (by rw [ht2, nI_clamp (show t < 2 ^ 31 by omega)]) (h3 h t ht1 ht2)⟩
theorem tc_wbk {post : St1 → Prop} {V : Nat → Int32} {l : Nat} (hk : tc_cok a1 a2 a3 a4 V) (hl : l < 16)
    (H : ∀ m, tc_cok m a2 a3 a4 V → (∀ t, t < 16 → a2 l = nI t → ¬ a3 l = 0 → m t = V t) → (∀ y, y < 16 → a1 y = V y → m y = V y) → post (m, a2, a3, a4, a5, a6, a7, a8, a9, a10)) :
    wpX_writeBack post (a1, a2, a3, a4, a5, a6, a7, a8, a9, a10) (nI l) := by
  refine tc_writeBack hl (fun h => ?_) (fun h t ht e => ?_) (fun h => ?_)
  · obtain ⟨t, h1, h2, _⟩ := hk.2.2.2 l hl (by rw [h]; decide)
    exact ⟨t, h1, h2⟩
  · obtain ⟨q1, q2⟩ := tc_wb hk hl h ht e
    refine H _ q1 (fun t' ht' e' _ => ?_) (fun y hy ey => ?_)
    · rw [tc_inj ht' ht (e'.symm.trans e), pk_us, q2]
    · by_cases z : y = t
      · rw [z, pk_us, q2]
      · rw [pk_un z, ey]
  · refine H _ hk (fun t ht e h0 => ?_) (fun y hy ey => ey)
    obtain ⟨t', h1, h2, h3⟩ := hk.2.2.2 l hl h0
    have et : t' = t := tc_inj h1 ht (h2.symm.trans e)
    rw [et] at h3
    have el : l / 4 * 4 + t % 4 = l := by omega
    refine tc_hM hk (c := l / 4) (by omega) ht ⟨?_, ?_⟩ ?_
    · rw [el]; exact h0
    · rw [el]; exact e
    · rw [el]; exact h
theorem tc_fetchL {post : St1 → Prop} {V : Nat → Int32} {c x : Nat} (hm : tc_cok a1 a2 a3 a4 V) (hc : c < 4) (hx : x < 16) (hn : ¬ tc_hold a2 a3 c x) (ho : ∀ y, y < 16 → y % 4 = x % 4 → tc_hold a2 a3 c y → a1 y = V y)
    (H : ∀ b1 b2 b3 b4, tc_cok b1 b2 b3 b4 V → tc_hold b2 b3 c x → post (b1, b2, b3, b4, a5, a6, a7, a8, a9, a10)) :
    ∃ fu, wX_fetch_27 post (nI c) (nI x) (nI (c * 4 + x % 4)) fu 0 0 a1 a2 a3 a4 a5 a6 a7 a8 a9 a10 := by
  refine pk_loop (σ := Int32 × (Nat → Int32) × (Nat → Int32)) (fun n i s => wX_fetch_27 post (nI c) (nI x) (nI (c * 4 + x % 4)) n s.1 (nI i) s.2.1 a2 s.2.2 a4 a5 a6 a7 a8 a9 a10)
    (fun i s => tc_cok s.2.1 a2 s.2.2 a4 V ∧ ¬ tc_hold a2 s.2.2 c x ∧ (∀ y, y < 16 → y % 4 = x % 4 → tc_hold a2 s.2.2 c y → s.2.1 y = V y) ∧ (∀ d, d < i → d ≠ c → tc_hold a2 s.2.2 d x → s.2.2 (d * 4 + x % 4) = 1) ∧ (s.1 = 1 ∨ s.1 = 0 ∧ ∀ d, d < i → d ≠ c → ¬ tc_hold a2 s.2.2 d x))
    4 0 (0, a1, a3) (by omega) ⟨hm, hn, ho, fun d hd => absurd hd (by omega), Or.inr ⟨rfl, fun d hd => absurd hd (by omega)⟩⟩ ?_ ?_
  · rintro n ⟨f, M, S⟩ ⟨k, n1, o1, s1, f1⟩
    dsimp only at k n1 o1 s1 f1 ⊢
    refine pk_le 4 4 (fun _ => ?_) (fun z => absurd z (by omega))
    rw [nI_clamp (show c * 4 + x % 4 < 2 ^ 31 by omega), nI_clamp (show x < 2 ^ 31 by omega), tc_nar x (by omega)]
    refine ⟨vp_in_nI (by omega) (by decide), nm_e ⟨pk_in x 16 hx, vp_in_nI (by omega) (by decide), nm_e ?_⟩⟩
    rcases f1 with e | ⟨e, e'⟩
    · have q := tc_fin (s := 1) k hc hx n1 o1 s1 (Or.inl rfl)
      exact br_f (by rw [e]; decide) ⟨vp_in_nI (by omega) (by decide), nm_r (congrArg (upd S (c * 4 + x % 4)) (by decide : (1 : Int32).toInt8.toInt32 = 1)) (H _ _ _ _ q.1 q.2)⟩
    · have q := tc_fin (s := 2) k hc hx n1 o1 s1 (Or.inr ⟨rfl, e'⟩)
      exact br_t e ⟨vp_in_nI (by omega) (by decide), nm_r (congrArg (upd S (c * 4 + x % 4)) (by decide : (2 : Int32).toInt8.toInt32 = 2)) (H _ _ _ _ q.1 q.2)⟩
  · rintro n i ⟨f, M, S⟩ hi ⟨k, n1, o1, s1, f1⟩ hw
    dsimp only at k n1 o1 s1 f1 hw ⊢
    refine pk_le 4 i (fun z => absurd z (by omega)) (fun _ => ?_)
    refine pk_eq i c (fun e => nm_r (nI_1 i) (hw (f, M, S) ⟨k, n1, o1, ?_, ?_⟩)) (fun e => ?_)
    · intro d hd hne hh
      exact s1 d (by omega) hne hh
    · rcases f1 with q | ⟨q, q'⟩
      · exact Or.inl q
      · exact Or.inr ⟨q, fun d hd hne => q' d (by omega) hne⟩
    · refine tc_holds hi hx (fun h => br_f (by decide) ?_) (fun h => br_t rfl (nm_r (nI_1 i) (hw (f, M, S) ⟨k, n1, o1, ?_, ?_⟩)))
      · refine tc_lineOf hx (tc_wbk k (by omega) (fun m hm h1 h2 => ?_))
        dsimp only
        rw [nI_clamp (show i * 4 + x % 4 < 2 ^ 31 by omega)]
        refine ⟨vp_in_nI (by omega) (by decide), nm_e (nm_r (nI_1 i) (hw (1, m, upd S (i * 4 + x % 4) 1) ⟨tc_share hm hi hx h (h1 x hx h.2 h.1), ?_, ?_, ?_, Or.inl rfl⟩))⟩
        · exact fun z => n1 ((tc_hold_sh h c x).mp z)
        · exact fun y hy hy4 z => h2 y hy (o1 y hy hy4 ((tc_hold_sh h c y).mp z))
        · intro d hd hne z
          show upd S (i * 4 + x % 4) 1 (d * 4 + x % 4) = 1
          by_cases q : d = i
          · rw [q, pk_us]
          · rw [pk_un (by omega)]
            exact s1 d (by omega) hne ((tc_hold_sh h d x).mp z)
      · intro d hd hne hh
        rcases Nat.lt_or_ge d i with q | q
        · exact s1 d q hne hh
        · rw [show d = i by omega] at hh; exact absurd hh h
      · rcases f1 with q | ⟨q, q'⟩
        · exact Or.inl q
        · refine Or.inr ⟨q, fun d hd hne hh => ?_⟩
          rcases Nat.lt_or_ge d i with z | z
          · exact q' d z hne hh
          · rw [show d = i by omega] at hh; exact h hh
theorem tc_fetch {post : St1 → Prop} {V : Nat → Int32} {c x : Nat} (hk : tc_cok a1 a2 a3 a4 V) (hc : c < 4) (hx : x < 16)
    (H : ∀ b1 b2 b3 b4, tc_cok b1 b2 b3 b4 V → tc_hold b2 b3 c x → post (b1, b2, b3, b4, a5, a6, a7, a8, a9, a10)) : wpX_fetch post (a1, a2, a3, a4, a5, a6, a7, a8, a9, a10) (nI c) (nI x) := by
  unfold wpX_fetch
  dsimp only
  refine tc_holds hc hx (fun h => br_f (by decide) (H _ _ _ _ hk h)) (fun h => br_t rfl ?_)
  refine tc_lineOf hx (tc_wbk hk (by omega) (fun m hm h1 h2 => ?_))
  dsimp only
  refine tc_fetchL hm hc hx h (fun y hy hy4 hh => ?_) H
  have e : c * 4 + y % 4 = c * 4 + x % 4 := by omega
  have q1 := hh.1
  have q2 := hh.2
  rw [e] at q1 q2
  exact h1 y hy q2 q1
theorem tc_st71 {post : St1 → Prop} {V : Nat → Int32} {c x : Nat} {v : Int32} (hk : tc_cok a1 a2 a3 a4 V) (hc : c < 4) (hx : x < 16) (hh : tc_hold a2 a3 c x) (hal : ∀ d, d < 4 → d ≠ c → ¬ tc_hold a2 a3 d x)
    (H : ∀ b1 b2 b3 b4, tc_cok b1 b2 b3 b4 (upd V x v) → post (b1, b2, b3, b4, a5, a6, a7, a8, a9, a10)) : wX_store_71 post v (nI (c * 4 + x % 4)) a1 a2 a3 a4 a5 a6 a7 a8 a9 a10 := by
  unfold wX_store_71
  rw [nI_clamp (show c * 4 + x % 4 < 2 ^ 31 by omega)]
  exact ⟨vp_in_nI (by omega) (by decide), nm_e ⟨vp_in_nI (by omega) (by decide), nm_e (H _ _ _ _ (tc_put hk hc hx hh hal v))⟩⟩
theorem tc_store27 {post : St1 → Prop} {V : Nat → Int32} {c x : Nat} {v : Int32} (hk : tc_cok a1 a2 a3 a4 V) (hc : c < 4) (hx : x < 16) (hh : tc_hold a2 a3 c x) (hM : a1 x = V x)
    (H : ∀ b1 b2 b3 b4, tc_cok b1 b2 b3 b4 (upd V x v) → post (b1, b2, b3, b4, a5, a6, a7, a8, a9, a10)) : ∃ fu, wX_store_27 post (nI c) (nI x) v (nI (c * 4 + x % 4)) fu 0 a1 a2 a3 a4 a5 a6 a7 a8 a9 a10 := by
  refine pk_loop (σ := Nat → Int32) (fun n i s => wX_store_27 post (nI c) (nI x) v (nI (c * 4 + x % 4)) n (nI i) a1 a2 s a4 a5 a6 a7 a8 a9 a10)
    (fun i s => tc_cok a1 a2 s a4 V ∧ tc_hold a2 s c x ∧ ∀ d, d < i → d ≠ c → ¬ tc_hold a2 s d x) 4 0 a3 (by omega) ⟨hk, hh, fun d hd => absurd hd (by omega)⟩ ?_ ?_
  · rintro n S ⟨k, h1, h2⟩
    exact pk_le 4 4 (fun _ => tc_st71 k hc hx h1 h2 H) (fun z => absurd z (by omega))
  · rintro n i S hi ⟨k, h1, h2⟩ hw
    refine pk_le 4 i (fun z => absurd z (by omega)) (fun _ => ?_)
    refine pk_eq i c (fun e => nm_r (nI_1 i) (hw S ⟨k, h1, fun d hd hne => h2 d (by omega) hne⟩)) (fun e => ?_)
    refine tc_holds hi hx (fun h => br_f (by decide) ?_) (fun h => br_t rfl (nm_r (nI_1 i) (hw S ⟨k, h1, fun d hd hne hd2 => ?_⟩)))
    · refine tc_lineOf hx ?_
      rw [nI_clamp (show i * 4 + x % 4 < 2 ^ 31 by omega)]
      refine ⟨vp_in_nI (by omega) (by decide), nm_e (nm_r (nI_1 i) (hw _ ⟨tc_inv k hi hx h hM, ⟨?_, h1.2⟩, fun d hd hne hd2 => ?_⟩))⟩
      · rw [pk_un (by omega)]; exact h1.1
      · obtain ⟨z1, z2⟩ := tc_hold_iv hd2
        by_cases q : d = i
        · exact z2 (by rw [q])
        · exact h2 d (by omega) hne z1
    · by_cases q : d = i
      · rw [q] at hd2; exact h hd2
      · exact h2 d (by omega) hne hd2
theorem tc_store {post : St1 → Prop} {V : Nat → Int32} {c x : Nat} {v : Int32} (hk : tc_cok a1 a2 a3 a4 V) (hc : c < 4) (hx : x < 16)
    (H : ∀ b1 b2 b3 b4, tc_cok b1 b2 b3 b4 (upd V x v) → post (b1, b2, b3, b4, a5, a6, a7, a8, a9, a10)) : wpX_store post (a1, a2, a3, a4, a5, a6, a7, a8, a9, a10) (nI c) (nI x) v := by
  unfold wpX_store
  dsimp only
  refine tc_fetch hk hc hx (fun b1 b2 b3 b4 k hh => ?_)
  dsimp only
  refine tc_lineOf hx ?_
  rw [nI_clamp (show c * 4 + x % 4 < 2 ^ 31 by omega)]
  refine ⟨vp_in_nI (by omega) (by decide), br_c (fun e => ?_) (fun e => ?_)⟩
  · exact tc_store27 k hc hx hh (tc_hM k hc hx hh (by rw [e]; decide)) H
  · exact tc_st71 k hc hx hh (fun d hd hne => k.2.2.1 c x hc hx hh e d hd hne) H
end
end
section
/-! the picture of the transactions: lv levels, o the logs by index and cell -/
def tc_or (a : Nat → Int32) (c : Nat) : Nat → Int32
  | 0 => 0
  | n + 1 => tc_or a c n ||| a (c * 3 + n)
def tc_bf (o : Nat → Nat → Option Int32) (c x : Nat) : Nat → Option Int32
  | 0 => none
  | n + 1 => (tc_bf o c x n).or (o (c * 3 + n) x)
def tc_wo (o : Nat → Nat → Option Int32) (lv : Nat → Nat) (x : Nat) : Nat → Option Nat
  | 0 => none
  | n + 1 => (tc_wo o lv x n).or (if (tc_bf o n x (lv n)).isSome = true then some n else none)
def tc_cm (o : Nat → Nat → Option Int32) (lv : Nat → Nat) (V : Nat → Int32) (x : Nat) : Int32 :=
  match tc_wo o lv x 4 with
  | none => V x
  | some d => (tc_bf o d x (lv d)).getD (V x)
def tc_se (o : Nat → Nat → Option Int32) (lv : Nat → Nat) (V : Nat → Int32) (c x : Nat) : Int32 := if tc_wo o lv x 4 = some c then V x else tc_cm o lv V x
def tc_dg (f : Nat → Int32) : Nat → Int32
  | 0 => 0
  | n + 1 => tc_dg f n + (nI n + 1) * f n
def tc_lg (a7 a8 a9 a10 : Nat → Int32) (g : Nat) (f : Nat → Option Int32) : Prop :=
  ∃ n, n ≤ 16 ∧ a8 g = nI n ∧ (∀ k, k < n → ∃ y, y < 16 ∧ a9 (g * 16 + k) = nI y ∧ f y = some (a10 (g * 16 + k))) ∧
    (∀ y, y < 16 → ∀ v, f y = some v → ∃ k, k < n ∧ a9 (g * 16 + k) = nI y) ∧ (∀ j k, j < n → k < n → a9 (g * 16 + j) = a9 (g * 16 + k) → j = k) ∧
    (∀ y, y < 16 → tc_bt (a7 g) y = (f y).isSome)
def tc_tx (lv : Nat → Nat) (o : Nat → Nat → Option Int32) (a5 a7 a8 a9 a10 : Nat → Int32) : Prop :=
  (∀ c, c < 4 → a5 c = nI (lv c) ∧ lv c ≤ 3) ∧ (∀ c l, c < 4 → l < lv c → tc_lg a7 a8 a9 a10 (c * 3 + l) (o (c * 3 + l)))
def tc_ex (lv : Nat → Nat) (o : Nat → Nat → Option Int32) (a6 : Nat → Int32) : Prop :=
  ∀ c d x, c < 4 → d < 4 → d ≠ c → x < 16 → (tc_bf o c x (lv c)).isSome = true → tc_bf o d x (lv d) = none ∧ tc_bt (tc_or a6 d (lv d)) x = false
def tc_K (V : Nat → Int32) (lv : Nat → Nat) (o : Nat → Nat → Option Int32) (a1 a2 a3 a4 a5 a6 a7 a8 a9 a10 : Nat → Int32) : Prop :=
  tc_cok a1 a2 a3 a4 V ∧ tc_tx lv o a5 a7 a8 a9 a10 ∧ tc_ex lv o a6
theorem tc_lgw {lv : Nat → Nat} {o : Nat → Nat → Option Int32} {a5 a7 a8 a9 a10 : Nat → Int32} (h : tc_tx lv o a5 a7 a8 a9 a10) {c x : Nat} (hc : c < 4) (hx : x < 16) : ∀ n, n ≤ lv c → tc_bt (tc_or a7 c n) x = (tc_bf o c x n).isSome := by
  intro n
  induction n with
  | zero => intro _; exact tc_b0 x
  | succ n ih =>
    intro hn
    obtain ⟨m, _, _, _, _, _, hb⟩ := h.2 c n hc (by omega)
    show tc_bt (tc_or a7 c n ||| a7 (c * 3 + n)) x = ((tc_bf o c x n).or (o (c * 3 + n) x)).isSome
    rw [tc_bor, ih (by omega), hb x hx, Option.isSome_or]
theorem tc_bfc {o o' : Nat → Nat → Option Int32} {c x : Nat} : ∀ n, (∀ l, l < n → o (c * 3 + l) x = o' (c * 3 + l) x) → tc_bf o c x n = tc_bf o' c x n := by
  intro n
  induction n with
  | zero => intro _; rfl
  | succ n ih =>
    intro h
    show (tc_bf o c x n).or (o (c * 3 + n) x) = (tc_bf o' c x n).or (o' (c * 3 + n) x)
    rw [ih (fun l hl => h l (by omega)), h n (by omega)]
theorem tc_orc {a b : Nat → Int32} {c : Nat} : ∀ n, (∀ l, l < n → a (c * 3 + l) = b (c * 3 + l)) → tc_or a c n = tc_or b c n := by
  intro n
  induction n with
  | zero => intro _; rfl
  | succ n ih =>
    intro h
    show tc_or a c n ||| a (c * 3 + n) = tc_or b c n ||| b (c * 3 + n)
    rw [ih (fun l hl => h l (by omega)), h n (by omega)]
theorem tc_wo_some {o : Nat → Nat → Option Int32} {lv : Nat → Nat} {x d : Nat} : ∀ n, tc_wo o lv x n = some d → d < n ∧ (tc_bf o d x (lv d)).isSome = true := by
  intro n
  induction n with
  | zero => intro h; exact absurd h (by simp [tc_wo])
  | succ n ih =>
    intro h
    unfold tc_wo at h
    cases e : tc_wo o lv x n with
    | some w =>
      rw [e, Option.some_or] at h
      obtain ⟨h1, h2⟩ := ih (e.trans h)
      exact ⟨by omega, h2⟩
    | none =>
      rw [e, Option.none_or] at h
      by_cases q : (tc_bf o n x (lv n)).isSome = true
      · rw [if_pos q] at h
        have e2 : n = d := Option.some.inj h
        rw [← e2]
        exact ⟨by omega, q⟩
      · rw [if_neg q] at h
        exact absurd h (by simp)
theorem tc_wo_none {o : Nat → Nat → Option Int32} {lv : Nat → Nat} {x : Nat} : ∀ n, tc_wo o lv x n = none → ∀ d, d < n → tc_bf o d x (lv d) = none := by
  intro n
  induction n with
  | zero => intro _ d hd; exact absurd hd (by omega)
  | succ n ih =>
    intro h d hd
    unfold tc_wo at h
    cases e : tc_wo o lv x n with
    | some w =>
      rw [e, Option.some_or] at h
      exact absurd h (by simp)
    | none =>
      rw [e, Option.none_or] at h
      rcases Nat.lt_or_ge d n with q | q
      · exact ih e d q
      · have e2 : d = n := by omega
        rw [e2]
        cases e3 : tc_bf o n x (lv n) with
        | none => rfl
        | some v =>
          rw [e3, if_pos (by rfl)] at h
          exact absurd h (by simp)
theorem tc_wo_all {o : Nat → Nat → Option Int32} {lv : Nat → Nat} {x : Nat} : ∀ n, (∀ d, d < n → tc_bf o d x (lv d) = none) → tc_wo o lv x n = none := by
  intro n
  induction n with
  | zero => intro _; rfl
  | succ n ih =>
    intro h
    unfold tc_wo
    rw [ih (fun d hd => h d (by omega)), h n (by omega)]
    rfl
theorem tc_wo_up {o : Nat → Nat → Option Int32} {lv : Nat → Nat} {x n d : Nat} (h : tc_wo o lv x n = some d) : ∀ k, tc_wo o lv x (n + k) = some d := by
  intro k
  induction k with
  | zero => exact h
  | succ k ih =>
    show (tc_wo o lv x (n + k)).or _ = some d
    rw [ih, Option.some_or]
theorem tc_wo_at {o : Nat → Nat → Option Int32} {lv : Nat → Nat} {x i : Nat} (hi : i < 4) (h : tc_wo o lv x i = none) (hb : (tc_bf o i x (lv i)).isSome = true) : tc_wo o lv x 4 = some i := by
  have e : tc_wo o lv x (i + 1) = some i := by
    unfold tc_wo
    rw [h, if_pos hb]
    rfl
  have e2 := tc_wo_up e (4 - (i + 1))
  rw [show i + 1 + (4 - (i + 1)) = 4 by omega] at e2
  exact e2
theorem tc_wo_c {o : Nat → Nat → Option Int32} {lv : Nat → Nat} {x c : Nat} (hc : c < 4) (hd : ∀ d, d < 4 → d ≠ c → tc_bf o d x (lv d) = none) (hb : (tc_bf o c x (lv c)).isSome = true) : tc_wo o lv x 4 = some c :=
  tc_wo_at hc (tc_wo_all c (fun d hdc => hd d (by omega) (by omega))) hb
theorem tc_cm_c {o : Nat → Nat → Option Int32} {lv : Nat → Nat} {V : Nat → Int32} {x c : Nat} (hc : c < 4) (hd : ∀ d, d < 4 → d ≠ c → tc_bf o d x (lv d) = none) : tc_cm o lv V x = (tc_bf o c x (lv c)).getD (V x) := by
  unfold tc_cm
  cases e : tc_bf o c x (lv c) with
  | none =>
    rw [tc_wo_all 4 (fun d h4 => by
      by_cases q : d = c
      · rw [q]; exact e
      · exact hd d h4 q)]
    rfl
  | some v =>
    rw [tc_wo_c hc hd (by rw [e]; rfl)]
    dsimp only
    rw [e]
theorem tc_se_c {o : Nat → Nat → Option Int32} {lv : Nat → Nat} {V : Nat → Int32} {x c : Nat} (hc : c < 4) (hd : ∀ d, d < 4 → d ≠ c → tc_bf o d x (lv d) = none) : tc_se o lv V c x = V x := by
  unfold tc_se
  by_cases q : tc_wo o lv x 4 = some c
  · rw [if_pos q]
  · rw [if_neg q, tc_cm_c hc hd]
    cases e : tc_bf o c x (lv c) with
    | none => rfl
    | some v => exact absurd (tc_wo_c hc hd (by rw [e]; rfl)) q
theorem tc_cm_keep {o o' : Nat → Nat → Option Int32} {lv lv' : Nat → Nat} {V V' a6 a6' : Nat → Int32} {x c : Nat} (hc : c < 4) (hx : x < 16) (he : tc_ex lv o a6) (he' : tc_ex lv' o' a6')
    (h1 : ∀ d, d < 4 → d ≠ c → tc_bf o' d x (lv' d) = tc_bf o d x (lv d))
    (h2 : (∀ d, d < 4 → d ≠ c → tc_bf o d x (lv d) = none) → (tc_bf o' c x (lv' c)).getD (V' x) = (tc_bf o c x (lv c)).getD (V x)) : tc_cm o' lv' V' x = tc_cm o lv V x := by
  by_cases q : ∃ d, d < 4 ∧ d ≠ c ∧ (tc_bf o d x (lv d)).isSome = true
  · obtain ⟨d, hd, hne, hs⟩ := q
    rw [tc_cm_c (o := o) hd (fun e he4 hne' => (he d e x hd he4 hne' hx hs).1), tc_cm_c (o := o') hd (fun e he4 hne' => (he' d e x hd he4 hne' hx (by rw [h1 d hd hne]; exact hs)).1), h1 d hd hne]
    cases e : tc_bf o d x (lv d) with
    | none => rw [e] at hs; exact absurd hs (by simp)
    | some v => rfl
  · have hn : ∀ d, d < 4 → d ≠ c → tc_bf o d x (lv d) = none := by
      intro d hd hne
      cases e : tc_bf o d x (lv d) with
      | none => rfl
      | some v => exact absurd ⟨d, hd, hne, by rw [e]; rfl⟩ q
    rw [tc_cm_c (o := o) hc hn, tc_cm_c (o := o') hc (fun d hd hne => by rw [h1 d hd hne]; exact hn d hd hne)]
    exact h2 hn
theorem tc_ex_mono {o o' : Nat → Nat → Option Int32} {lv lv' : Nat → Nat} {a6 a6' : Nat → Int32} (he : tc_ex lv o a6)
    (h1 : ∀ d x, d < 4 → x < 16 → (tc_bf o' d x (lv' d)).isSome = true → (tc_bf o d x (lv d)).isSome = true)
    (h2 : ∀ d x, d < 4 → x < 16 → tc_bt (tc_or a6' d (lv' d)) x = true → tc_bt (tc_or a6 d (lv d)) x = true) : tc_ex lv' o' a6' := by
  intro c d x hc hd hne hx hs
  obtain ⟨q1, q2⟩ := he c d x hc hd hne hx (h1 c x hc hx hs)
  constructor
  · cases e : tc_bf o' d x (lv' d) with
    | none => rfl
    | some v =>
      have := h1 d x hd hx (by rw [e]; rfl)
      rw [q1] at this
      exact absurd this (by simp)
  · cases e : tc_bt (tc_or a6' d (lv' d)) x with
    | false => rfl
    | true =>
      have := h2 d x hd hx e
      rw [q2] at this
      exact absurd this (by simp)
theorem tc_dgc {f f' : Nat → Int32} : ∀ n, (∀ x, x < n → f x = f' x) → tc_dg f n = tc_dg f' n := by
  intro n
  induction n with
  | zero => intro _; rfl
  | succ n ih =>
    intro h
    show tc_dg f n + (nI n + 1) * f n = tc_dg f' n + (nI n + 1) * f' n
    rw [ih (fun x hx => h x (by omega)), h n (by omega)]
/-! rivals -/
def tc_rv (f : Nat → Bool) (c : Nat) : Nat → Int32
  | 0 => 0
  | n + 1 => tc_rv f c n ||| (if n = c then 0 else if f n = true then (1 : Int32) <<< (nI n &&& 31) else 0)
theorem tc_rv0 {f : Nat → Bool} {c : Nat} : ∀ n, n ≤ 4 → (tc_rv f c n = 0 ↔ ∀ d, d < n → d ≠ c → f d = false) := by
  intro n
  induction n with
  | zero => intro _; exact ⟨fun _ d hd => absurd hd (by omega), fun _ => rfl⟩
  | succ n ih =>
    intro hn
    unfold tc_rv
    rw [tc_or0, ih (by omega)]
    constructor
    · rintro ⟨h1, h2⟩ d hd hne
      rcases Nat.lt_or_ge d n with q | q
      · exact h1 d q hne
      · have e : d = n := by omega
        rw [e] at hne ⊢
        rw [if_neg hne] at h2
        cases e2 : f n with
        | false => rfl
        | true =>
          rw [e2, if_pos rfl] at h2
          exact absurd h2 (tc_sh0 n (by omega))
    · intro h
      refine ⟨fun d hd hne => h d (by omega) hne, ?_⟩
      by_cases q : n = c
      · rw [if_pos q]
      · rw [if_neg q, h n (by omega) q]
        rfl
def tc_th (a6 a7 : Nat → Int32) (lv : Nat → Nat) (w : Int32) (d : Nat) : Int32 := if w = 0 then tc_or a7 d (lv d) else tc_or a7 d (lv d) ||| tc_or a6 d (lv d)
/-! a place of the logs written -/
def tc_up (o : Nat → Nat → Option Int32) (g x : Nat) (w : Int32) : Nat → Nat → Option Int32 := fun g' y => if g' = g ∧ y = x then some w else o g' y
theorem tc_up_s {o : Nat → Nat → Option Int32} {g x : Nat} {w : Int32} : tc_up o g x w g x = some w := if_pos ⟨rfl, rfl⟩
theorem tc_up_g {o : Nat → Nat → Option Int32} {g x g' y : Nat} {w : Int32} (h : g' ≠ g) : tc_up o g x w g' y = o g' y := if_neg (fun z => h z.1)
theorem tc_up_x {o : Nat → Nat → Option Int32} {g x g' y : Nat} {w : Int32} (h : y ≠ x) : tc_up o g x w g' y = o g' y := if_neg (fun z => h z.2)
theorem tc_up_id {o : Nat → Nat → Option Int32} {g x : Nat} {w : Int32} (h : o g x = some w) : tc_up o g x w = o := by
  funext g' y
  by_cases q : g' = g ∧ y = x
  · rw [q.1, q.2, tc_up_s, h]
  · exact if_neg q
def tc_ch (o : Nat → Nat → Option Int32) (lv : Nat → Nat) (V : Nat → Int32) (c x : Nat) : Nat → Nat → Option Int32 :=
  match lv c with
  | 0 => o
  | n + 1 => tc_up o (c * 3 + n) x ((o (c * 3 + n) x).getD (V x))
/-- n different numbers below m: n is at most m -/
theorem tc_pig : ∀ (m n : Nat) (f : Nat → Nat), (∀ k, k < n → f k < m) → (∀ j k, j < n → k < n → f j = f k → j = k) → n ≤ m := by
  intro m
  induction m with
  | zero =>
    intro n f h _
    rcases Nat.eq_zero_or_pos n with q | q
    · omega
    · exact absurd (h 0 q) (by omega)
  | succ m ih =>
    intro n f h hi
    by_cases q : ∃ k, k < n ∧ f k = m
    · obtain ⟨k, hk, e⟩ := q
      have := ih (n - 1) (fun j => if j < k then f j else f (j + 1)) (fun j hj => ?_) (fun i j hi' hj he => ?_)
      · omega
      · skip
        by_cases z : j < k
        · rw [if_pos z]
          have h1 := h j (by omega)
          have h2 : f j ≠ m := fun e2 => by have := hi j k (by omega) hk (by rw [e2, e]); omega
          omega
        · rw [if_neg z]
          have h1 := h (j + 1) (by omega)
          have h2 : f (j + 1) ≠ m := fun e2 => by have := hi (j + 1) k (by omega) hk (by rw [e2, e]); omega
          omega
      · skip
        by_cases z : i < k
        · by_cases z2 : j < k
          · rw [if_pos z, if_pos z2] at he
            exact hi i j (by omega) (by omega) he
          · rw [if_pos z, if_neg z2] at he
            have := hi i (j + 1) (by omega) (by omega) he
            omega
        · by_cases z2 : j < k
          · rw [if_neg z, if_pos z2] at he
            have := hi (i + 1) j (by omega) (by omega) he
            omega
          · rw [if_neg z, if_neg z2] at he
            have := hi (i + 1) (j + 1) (by omega) (by omega) he
            omega
    · have := ih n f (fun k hk => ?_) hi
      · omega
      · have h1 := h k hk
        have h2 : f k ≠ m := fun e2 => q ⟨k, hk, e2⟩
        omega
/-- a log of a cell that isn't there has room -/
theorem tc_room {a9 a10 : Nat → Int32} {g n x : Nat} {f : Nat → Option Int32} (hx : x < 16) (hf : f x = none) (h2 : ∀ k, k < n → ∃ y, y < 16 ∧ a9 (g * 16 + k) = nI y ∧ f y = some (a10 (g * 16 + k)))
    (h3 : ∀ j k, j < n → k < n → a9 (g * 16 + j) = a9 (g * 16 + k) → j = k) : n < 16 := by
  have hc : ∀ k, ∃ y, k < n → y < 16 ∧ a9 (g * 16 + k) = nI y ∧ f y = some (a10 (g * 16 + k)) := by
    intro k
    by_cases q : k < n
    · obtain ⟨y, h⟩ := h2 k q
      exact ⟨y, fun _ => h⟩
    · exact ⟨0, fun z => absurd z q⟩
  have := tc_pig 16 (n + 1) (fun k => if k < n then Classical.choose (hc k) else x) (fun k hk => ?_) (fun j k hj hk he => ?_)
  · omega
  · skip
    by_cases q : k < n
    · rw [if_pos q]; exact (Classical.choose_spec (hc k) q).1
    · rw [if_neg q]; exact hx
  · skip
    have key : ∀ j, j < n → Classical.choose (hc j) = x → False := by
      intro j hj e
      have := (Classical.choose_spec (hc j) hj).2.2
      rw [e, hf] at this
      exact absurd this (by simp)
    by_cases q : j < n
    · by_cases q2 : k < n
      · rw [if_pos q, if_pos q2] at he
        refine h3 j k q q2 ?_
        rw [(Classical.choose_spec (hc j) q).2.1, (Classical.choose_spec (hc k) q2).2.1, he]
      · rw [if_pos q, if_neg q2] at he
        exact absurd he (fun e => key j q e)
    · by_cases q2 : k < n
      · rw [if_neg q, if_pos q2] at he
        exact absurd he.symm (fun e => key k q2 e)
      · omega
/-- what a log at g leaves as it is -/
def tc_sm (g : Nat) (a7 a8 a9 a10 b7 b8 b9 b10 : Nat → Int32) : Prop :=
  (∀ h, h ≠ g → b7 h = a7 h ∧ b8 h = a8 h) ∧ (∀ j, j < g * 16 ∨ g * 16 + 16 ≤ j → b9 j = a9 j ∧ b10 j = a10 j)
theorem tc_sm_r (g : Nat) (a7 a8 a9 a10 : Nat → Int32) : tc_sm g a7 a8 a9 a10 a7 a8 a9 a10 := ⟨fun _ _ => ⟨rfl, rfl⟩, fun _ _ => ⟨rfl, rfl⟩⟩
theorem tc_sm_t {g : Nat} {a7 a8 a9 a10 b7 b8 b9 b10 c7 c8 c9 c10 : Nat → Int32} (h : tc_sm g a7 a8 a9 a10 b7 b8 b9 b10) (h' : tc_sm g b7 b8 b9 b10 c7 c8 c9 c10) : tc_sm g a7 a8 a9 a10 c7 c8 c9 c10 :=
  ⟨fun k hk => ⟨(h'.1 k hk).1.trans (h.1 k hk).1, (h'.1 k hk).2.trans (h.1 k hk).2⟩, fun j hj => ⟨(h'.2 j hj).1.trans (h.2 j hj).1, (h'.2 j hj).2.trans (h.2 j hj).2⟩⟩
theorem tc_lg_keep {g k : Nat} {a7 a8 a9 a10 b7 b8 b9 b10 : Nat → Int32} {f : Nat → Option Int32} (h : tc_sm g a7 a8 a9 a10 b7 b8 b9 b10) (hk : k ≠ g) (hl : tc_lg a7 a8 a9 a10 k f) : tc_lg b7 b8 b9 b10 k f := by
  obtain ⟨n, h1, h2, h3, h4, h5, h6⟩ := hl
  have e9 : ∀ j, j < n → b9 (k * 16 + j) = a9 (k * 16 + j) := fun j hj => (h.2 (k * 16 + j) (by omega)).1
  have e10 : ∀ j, j < n → b10 (k * 16 + j) = a10 (k * 16 + j) := fun j hj => (h.2 (k * 16 + j) (by omega)).2
  refine ⟨n, h1, (h.1 k hk).2.trans h2, fun j hj => ?_, fun y hy v hv => ?_, fun i j hi hj e => ?_, fun y hy => ?_⟩
  · rw [e9 j hj, e10 j hj]; exact h3 j hj
  · obtain ⟨j, hj, e⟩ := h4 y hy v hv
    exact ⟨j, hj, by rw [e9 j hj]; exact e⟩
  · rw [e9 i hi, e9 j hj] at e
    exact h5 i j hi hj e
  · rw [(h.1 k hk).1]; exact h6 y hy
theorem tc_lg_cong {g : Nat} {a7 a8 a9 a10 : Nat → Int32} {f f' : Nat → Option Int32} (he : ∀ y, y < 16 → f y = f' y) (hl : tc_lg a7 a8 a9 a10 g f) : tc_lg a7 a8 a9 a10 g f' := by
  obtain ⟨n, h1, h2, h3, h4, h5, h6⟩ := hl
  refine ⟨n, h1, h2, fun j hj => ?_, fun y hy v hv => h4 y hy v (by rw [he y hy]; exact hv), h5, fun y hy => by rw [← he y hy]; exact h6 y hy⟩
  obtain ⟨y, q1, q2, q3⟩ := h3 j hj
  exact ⟨y, q1, q2, by rw [← he y q1]; exact q3⟩
/-- an entry added -/
theorem tc_lg_add {g x : Nat} {a7 a8 a9 a10 : Nat → Int32} {f f' : Nat → Option Int32} {w : Int32} (hx : x < 16) (hl : tc_lg a7 a8 a9 a10 g f) (hf : f x = none) (hfx : f' x = some w) (hfy : ∀ y, y ≠ x → f' y = f y) :
    ∃ n, n < 16 ∧ a8 g = nI n ∧ tc_lg (upd a7 g (a7 g ||| ((1 : Int32) <<< (nI x &&& 31)))) (upd a8 g (nI (n + 1))) (upd a9 (g * 16 + n) (nI x)) (upd a10 (g * 16 + n) w) g f' := by
  obtain ⟨m, h1, h2, h3, h4, h5, h6⟩ := hl
  have hm : m < 16 := tc_room (a10 := a10) hx hf h3 h5
  have hxk : ∀ k, k < m → ¬ a9 (g * 16 + k) = nI x := by
    intro k hk e
    obtain ⟨y, q1, q2, q3⟩ := h3 k hk
    rw [tc_inj q1 hx (q2.symm.trans e), hf] at q3
    exact absurd q3 (by simp)
  refine ⟨m, hm, h2, m + 1, by omega, pk_us, fun k hk => ?_, fun y hy v hv => ?_, fun j k hj hk e => ?_, fun y hy => ?_⟩
  · by_cases q : k = m
    · rw [q, pk_us, pk_us]
      exact ⟨x, hx, rfl, hfx⟩
    · rw [pk_un (by omega), pk_un (by omega)]
      obtain ⟨y, q1, q2, q3⟩ := h3 k (by omega)
      refine ⟨y, q1, q2, ?_⟩
      rw [hfy y (fun e => hxk k (by omega) (by rw [q2, e]))]
      exact q3
  · by_cases q : y = x
    · exact ⟨m, by omega, by rw [pk_us, q]⟩
    · rw [hfy y q] at hv
      obtain ⟨k, hk, e⟩ := h4 y hy v hv
      exact ⟨k, by omega, by rw [pk_un (by omega)]; exact e⟩
  · by_cases q : j = m
    · by_cases q2 : k = m
      · omega
      · rw [q, pk_us, pk_un (by omega)] at e
        exact absurd e.symm (hxk k (by omega))
    · by_cases q2 : k = m
      · rw [q2, pk_us, pk_un (by omega)] at e
        exact absurd e (hxk j (by omega))
      · rw [pk_un (by omega), pk_un (by omega)] at e
        exact h5 j k (by omega) (by omega) e
  · rw [pk_us, tc_bor, h6 y hy, tc_bone x hx y hy]
    by_cases q : y = x
    · rw [q, hfx]
      simp
    · rw [hfy y q, decide_eq_false q, Bool.or_false]
theorem tc_sm_add (g n : Nat) (hn : n < 16) (a7 a8 a9 a10 : Nat → Int32) (u v w z : Int32) : tc_sm g a7 a8 a9 a10 (upd a7 g u) (upd a8 g v) (upd a9 (g * 16 + n) w) (upd a10 (g * 16 + n) z) :=
  ⟨fun h hh => ⟨pk_un hh, pk_un hh⟩, fun j hj => ⟨pk_un (by omega), pk_un (by omega)⟩⟩
end
section
/-! what the operations do to the picture -/
def tc_lv (lv : Nat → Nat) (c n : Nat) : Nat → Nat := fun d => if d = c then n else lv d
theorem tc_lv_s {lv : Nat → Nat} {c n : Nat} : tc_lv lv c n c = n := if_pos rfl
theorem tc_lv_n {lv : Nat → Nat} {c n d : Nat} (h : d ≠ c) : tc_lv lv c n d = lv d := if_neg h
theorem tc_bfs {o : Nat → Nat → Option Int32} {c x n : Nat} (h : (tc_bf o c x n).isSome = true) : (tc_bf o c x (n + 1)).isSome = true := by
  show ((tc_bf o c x n).or (o (c * 3 + n) x)).isSome = true
  rw [Option.isSome_or, h]
  rfl
theorem tc_ors {a : Nat → Int32} {c x n : Nat} (h : tc_bt (tc_or a c n) x = true) : tc_bt (tc_or a c (n + 1)) x = true := by
  show tc_bt (tc_or a c n ||| a (c * 3 + n)) x = true
  rw [tc_bor, h]
  rfl
section
variable {a1 a2 a3 a4 a5 a6 a7 a8 a9 a10 b1 b2 b3 b4 b7 b8 b9 b10 V V' : Nat → Int32} {lv : Nat → Nat} {o : Nat → Nat → Option Int32} {c n x : Nat}
theorem tc_txdn (h : tc_tx lv o a5 a7 a8 a9 a10) (hc : c < 4) (hn : lv c = n + 1) : tc_tx (tc_lv lv c n) o (upd a5 c (nI n)) a7 a8 a9 a10 := by
  refine ⟨fun d hd => ?_, fun d l hd hl => ?_⟩
  · by_cases q : d = c
    · rw [q, pk_us, tc_lv_s]
      have := (h.1 c hc).2
      exact ⟨rfl, by omega⟩
    · rw [pk_un q, tc_lv_n q]; exact h.1 d hd
  · by_cases q : d = c
    · rw [q, tc_lv_s] at hl
      rw [q]
      exact h.2 c l hc (by omega)
    · rw [tc_lv_n q] at hl
      exact h.2 d l hd hl
theorem tc_exdn (h : tc_ex lv o a6) (hn : lv c = n + 1) : tc_ex (tc_lv lv c n) o a6 := by
  refine tc_ex_mono h (fun d y hd hy hs => ?_) (fun d y hd hy hs => ?_)
  · by_cases q : d = c
    · rw [q, tc_lv_s] at hs
      rw [q, hn]; exact tc_bfs hs
    · rw [tc_lv_n q] at hs; exact hs
  · by_cases q : d = c
    · rw [q, tc_lv_s] at hs
      rw [q, hn]; exact tc_ors hs
    · rw [tc_lv_n q] at hs; exact hs
theorem tc_undoK (h : tc_K V lv o a1 a2 a3 a4 a5 a6 a7 a8 a9 a10) (hc : c < 4) (hn : lv c = n + 1) (hb : tc_cok b1 b2 b3 b4 V') (hV : ∀ y, y < 16 → V' y = (o (c * 3 + n) y).getD (V y)) :
    tc_K V' (tc_lv lv c n) o b1 b2 b3 b4 (upd a5 c (nI n)) a6 a7 a8 a9 a10 ∧ ∀ y, y < 16 → tc_cm o (tc_lv lv c n) V' y = tc_cm o lv V y := by
  obtain ⟨k, t, e⟩ := h
  have e' : tc_ex (tc_lv lv c n) o a6 := tc_exdn e hn
  refine ⟨⟨hb, tc_txdn t hc hn, e'⟩, fun y hy => tc_cm_keep hc hy e e' (fun d hd hne => by rw [tc_lv_n hne]) (fun _ => ?_)⟩
  rw [tc_lv_s, hn, hV y hy]
  show (tc_bf o c y n).getD _ = ((tc_bf o c y n).or (o (c * 3 + n) y)).getD (V y)
  cases tc_bf o c y n with
  | none => rw [Option.none_or]; rfl
  | some v => rw [Option.some_or]; rfl
theorem tc_end0K (h : tc_K V lv o a1 a2 a3 a4 a5 a6 a7 a8 a9 a10) (hc : c < 4) (hn : lv c = n + 1) : tc_K V (tc_lv lv c n) o a1 a2 a3 a4 (upd a5 c (nI n)) a6 a7 a8 a9 a10 :=
  ⟨h.1, tc_txdn h.2.1 hc hn, tc_exdn h.2.2 hn⟩
def tc_ob (o : Nat → Nat → Option Int32) (g : Nat) : Nat → Nat → Option Int32 := fun g' y => if g' = g then none else o g' y
theorem tc_beginK (h : tc_K V lv o a1 a2 a3 a4 a5 a6 a7 a8 a9 a10) (hc : c < 4) (hl : lv c < 3) :
    tc_K V (tc_lv lv c (lv c + 1)) (tc_ob o (c * 3 + lv c)) a1 a2 a3 a4 (upd a5 c (nI (lv c + 1))) (upd a6 (c * 3 + lv c) 0) (upd a7 (c * 3 + lv c) 0) (upd a8 (c * 3 + lv c) 0) a9 a10 ∧
    ∀ d, d < 4 → tc_or (upd a6 (c * 3 + lv c) 0) d (tc_lv lv c (lv c + 1) d) = tc_or a6 d (lv d) ∧ tc_or (upd a7 (c * 3 + lv c) 0) d (tc_lv lv c (lv c + 1) d) = tc_or a7 d (lv d) ∧
      ∀ y, tc_bf (tc_ob o (c * 3 + lv c)) d y (tc_lv lv c (lv c + 1) d) = tc_bf o d y (lv d) := by
  obtain ⟨k, t, e⟩ := h
  have hor : ∀ a : Nat → Int32, ∀ d, d < 4 → tc_or (upd a (c * 3 + lv c) 0) d (tc_lv lv c (lv c + 1) d) = tc_or a d (lv d) := by
    intro a d hd
    by_cases q : d = c
    · rw [q, tc_lv_s]
      show tc_or (upd a (c * 3 + lv c) 0) c (lv c) ||| upd a (c * 3 + lv c) 0 (c * 3 + lv c) = _
      rw [pk_us, tc_orz]
      exact tc_orc _ (fun l hl => pk_un (by omega))
    · rw [tc_lv_n q]
      have := (t.1 d hd).2
      exact tc_orc _ (fun l hl => pk_un (by omega))
  have hbf : ∀ d, d < 4 → ∀ y, tc_bf (tc_ob o (c * 3 + lv c)) d y (tc_lv lv c (lv c + 1) d) = tc_bf o d y (lv d) := by
    intro d hd y
    by_cases q : d = c
    · rw [q, tc_lv_s]
      show (tc_bf (tc_ob o (c * 3 + lv c)) c y (lv c)).or (tc_ob o (c * 3 + lv c) (c * 3 + lv c) y) = _
      rw [show tc_ob o (c * 3 + lv c) (c * 3 + lv c) y = none from if_pos rfl, Option.or_none]
      exact tc_bfc _ (fun l hl => if_neg (by omega))
    · rw [tc_lv_n q]
      have := (t.1 d hd).2
      exact tc_bfc _ (fun l hl => if_neg (by omega))
  refine ⟨⟨k, ⟨fun d hd => ?_, fun d l hd hl' => ?_⟩, ?_⟩, fun d hd => ⟨hor a6 d hd, hor a7 d hd, hbf d hd⟩⟩
  · by_cases q : d = c
    · rw [q, pk_us, tc_lv_s]
      exact ⟨rfl, by omega⟩
    · rw [pk_un q, tc_lv_n q]; exact t.1 d hd
  · by_cases q : d * 3 + l = c * 3 + lv c
    · rw [q]
      refine ⟨0, by omega, pk_us, fun k hk => absurd hk (by omega), fun y hy v hv => ?_, fun j k hj => absurd hj (by omega), fun y hy => ?_⟩
      · rw [show tc_ob o (c * 3 + lv c) (c * 3 + lv c) y = none from if_pos rfl] at hv
        exact absurd hv (by simp)
      · rw [pk_us, tc_b0, show tc_ob o (c * 3 + lv c) (c * 3 + lv c) y = none from if_pos rfl]
        rfl
    · have hlt : l < lv d := by
        by_cases q2 : d = c
        · rw [q2, tc_lv_s] at hl'
          rw [q2] at q ⊢
          omega
        · rw [tc_lv_n q2] at hl'; exact hl'
      have hs : tc_sm (c * 3 + lv c) a7 a8 a9 a10 (upd a7 (c * 3 + lv c) 0) (upd a8 (c * 3 + lv c) 0) a9 a10 := ⟨fun h hh => ⟨pk_un hh, pk_un hh⟩, fun _ _ => ⟨rfl, rfl⟩⟩
      refine tc_lg_cong (fun y hy => ?_) (tc_lg_keep hs q (t.2 d l hd hlt))
      exact (if_neg q).symm
  · exact tc_ex_mono e (fun d y hd hy hs => by rw [hbf d hd y] at hs; exact hs) (fun d y hd hy hs => by rw [hor a6 d hd] at hs; exact hs)
def tc_om (o : Nat → Nat → Option Int32) (g t : Nat) : Nat → Nat → Option Int32 := fun h y => if h = g then (o g y).or (o t y) else o h y
theorem tc_endK (h : tc_K V lv o a1 a2 a3 a4 a5 a6 a7 a8 a9 a10) (hc : c < 4) (hn : lv c = n + 2) (hs : tc_sm (c * 3 + n) a7 a8 a9 a10 b7 b8 b9 b10)
    (hg : tc_lg b7 b8 b9 b10 (c * 3 + n) (fun y => (o (c * 3 + n) y).or (o (c * 3 + (n + 1)) y))) :
    tc_K V (tc_lv lv c (n + 1)) (tc_om o (c * 3 + n) (c * 3 + (n + 1))) a1 a2 a3 a4 (upd a5 c (nI (n + 1))) (upd a6 (c * 3 + n) (a6 (c * 3 + n) ||| a6 (c * 3 + (n + 1)))) b7 b8 b9 b10 ∧
    ∀ y, y < 16 → tc_cm (tc_om o (c * 3 + n) (c * 3 + (n + 1))) (tc_lv lv c (n + 1)) V y = tc_cm o lv V y := by
  obtain ⟨k, t, e⟩ := h
  have h3 := (t.1 c hc).2
  have hbf : ∀ d, d < 4 → ∀ y, tc_bf (tc_om o (c * 3 + n) (c * 3 + (n + 1))) d y (tc_lv lv c (n + 1) d) = tc_bf o d y (lv d) := by
    intro d hd y
    by_cases q : d = c
    · rw [q, tc_lv_s, hn]
      show (tc_bf (tc_om o (c * 3 + n) (c * 3 + (n + 1))) c y n).or (tc_om o (c * 3 + n) (c * 3 + (n + 1)) (c * 3 + n) y) = ((tc_bf o c y n).or (o (c * 3 + n) y)).or (o (c * 3 + (n + 1)) y)
      rw [show tc_om o (c * 3 + n) (c * 3 + (n + 1)) (c * 3 + n) y = (o (c * 3 + n) y).or (o (c * 3 + (n + 1)) y) from if_pos rfl, Option.or_assoc]
      rw [tc_bfc (o := tc_om o (c * 3 + n) (c * 3 + (n + 1))) (o' := o) n (fun l hl => if_neg (by omega))]
    · rw [tc_lv_n q]
      have := (t.1 d hd).2
      exact tc_bfc _ (fun l hl => if_neg (by omega))
  have hor : ∀ d, d < 4 → tc_or (upd a6 (c * 3 + n) (a6 (c * 3 + n) ||| a6 (c * 3 + (n + 1)))) d (tc_lv lv c (n + 1) d) = tc_or a6 d (lv d) := by
    intro d hd
    by_cases q : d = c
    · rw [q, tc_lv_s, hn]
      show tc_or (upd a6 (c * 3 + n) (a6 (c * 3 + n) ||| a6 (c * 3 + (n + 1)))) c n ||| upd a6 (c * 3 + n) (a6 (c * 3 + n) ||| a6 (c * 3 + (n + 1))) (c * 3 + n) = (tc_or a6 c n ||| a6 (c * 3 + n)) ||| a6 (c * 3 + (n + 1))
      rw [pk_us, tc_ora]
      rw [tc_orc (a := upd a6 (c * 3 + n) (a6 (c * 3 + n) ||| a6 (c * 3 + (n + 1)))) (b := a6) n (fun l hl => pk_un (by omega))]
    · rw [tc_lv_n q]
      have := (t.1 d hd).2
      exact tc_orc _ (fun l hl => pk_un (by omega))
  have e' : tc_ex (tc_lv lv c (n + 1)) (tc_om o (c * 3 + n) (c * 3 + (n + 1))) (upd a6 (c * 3 + n) (a6 (c * 3 + n) ||| a6 (c * 3 + (n + 1)))) :=
    tc_ex_mono e (fun d y hd hy hs => by rw [hbf d hd y] at hs; exact hs) (fun d y hd hy hs => by rw [hor d hd] at hs; exact hs)
  refine ⟨⟨k, ⟨fun d hd => ?_, fun d l hd hl' => ?_⟩, e'⟩, fun y hy => ?_⟩
  · by_cases q : d = c
    · rw [q, pk_us, tc_lv_s]
      exact ⟨rfl, by omega⟩
    · rw [pk_un q, tc_lv_n q]; exact t.1 d hd
  · by_cases q : d * 3 + l = c * 3 + n
    · rw [q]
      exact tc_lg_cong (fun y hy => (if_pos rfl).symm) hg
    · have hlt : l < lv d := by
        by_cases q2 : d = c
        · rw [q2, tc_lv_s] at hl'
          rw [q2]
          omega
        · rw [tc_lv_n q2] at hl'; exact hl'
      exact tc_lg_cong (fun y hy => (if_neg q).symm) (tc_lg_keep hs q (t.2 d l hd hlt))
  · refine tc_cm_keep hc hy e e' (fun d hd hne => hbf d hd y) (fun _ => ?_)
    rw [hbf c hc y]
/-- a write by c of a cell that no other has read or written -/
theorem tc_chb (t : tc_tx lv o a5 a7 a8 a9 a10) (hc : c < 4) {d : Nat} (hd : d < 4) {y : Nat} (h : d ≠ c ∨ y ≠ x) : tc_bf (tc_ch o lv V c x) d y (lv d) = tc_bf o d y (lv d) := by
  unfold tc_ch
  cases e : lv c with
  | zero => rfl
  | succ m =>
    dsimp only
    have h1 := (t.1 c hc).2
    have h2 := (t.1 d hd).2
    refine tc_bfc _ (fun l hl => ?_)
    by_cases q : y = x
    · refine tc_up_g (fun z => ?_)
      rcases h with h | h
      · omega
      · exact h q
    · exact tc_up_x q
theorem tc_changeK {v : Int32} (h : tc_K V lv o a1 a2 a3 a4 a5 a6 a7 a8 a9 a10) (hc : c < 4) (hx : x < 16) (hr : ∀ d, d < 4 → d ≠ c → tc_bf o d x (lv d) = none ∧ tc_bt (tc_or a6 d (lv d)) x = false)
    (hb : tc_cok b1 b2 b3 b4 (upd V x v)) (ht : tc_tx lv (tc_ch o lv V c x) a5 b7 b8 b9 b10) :
    tc_K (upd V x v) lv (tc_ch o lv V c x) b1 b2 b3 b4 a5 a6 b7 b8 b9 b10 ∧ (0 < lv c → ∀ y, y < 16 → tc_cm (tc_ch o lv V c x) lv (upd V x v) y = tc_cm o lv V y) ∧
    tc_se (tc_ch o lv V c x) lv (upd V x v) c x = v ∧ (lv c = 0 → tc_cm (tc_ch o lv V c x) lv (upd V x v) x = v) := by
  obtain ⟨k, t, e⟩ := h
  have hd0 : ∀ d, d < 4 → d ≠ c → tc_bf (tc_ch o lv V c x) d x (lv d) = none := fun d hd hne => by rw [tc_chb t hc hd (Or.inl hne)]; exact (hr d hd hne).1
  have e' : tc_ex lv (tc_ch o lv V c x) a6 := by
    intro c' d y hc' hd hne hy hs
    by_cases q : c' = c
    · rw [q] at hne hs
      by_cases q2 : y = x
      · rw [q2]; exact ⟨hd0 d hd hne, (hr d hd hne).2⟩
      · rw [tc_chb t hc hd (Or.inr q2)]
        rw [tc_chb t hc hc (Or.inr q2)] at hs
        exact e c d y hc hd hne hy hs
    · rw [tc_chb t hc hc' (Or.inl q)] at hs
      by_cases q2 : y = x
      · rw [q2, (hr c' hc' q).1] at hs
        exact absurd hs (by simp)
      · rw [tc_chb t hc hd (Or.inr q2)]
        exact e c' d y hc' hd hne hy hs
  refine ⟨⟨hb, ht, e'⟩, fun h0 y hy => ?_, ?_, fun h0 => ?_⟩
  · refine tc_cm_keep hc hy e e' (fun d hd hne => tc_chb t hc hd (Or.inl hne)) (fun _ => ?_)
    by_cases q : y = x
    · rw [q]
      obtain ⟨m, hm⟩ : ∃ m, lv c = m + 1 := ⟨lv c - 1, by omega⟩
      have e1 : tc_ch o lv V c x = tc_up o (c * 3 + m) x ((o (c * 3 + m) x).getD (V x)) := by
        unfold tc_ch
        rw [hm]
      rw [e1, hm]
      show ((tc_bf (tc_up o (c * 3 + m) x ((o (c * 3 + m) x).getD (V x))) c x m).or (tc_up o (c * 3 + m) x ((o (c * 3 + m) x).getD (V x)) (c * 3 + m) x)).getD _ = ((tc_bf o c x m).or (o (c * 3 + m) x)).getD (V x)
      rw [tc_up_s, tc_bfc (o := tc_up o (c * 3 + m) x ((o (c * 3 + m) x).getD (V x))) (o' := o) m (fun l hl => tc_up_g (by omega))]
      cases tc_bf o c x m with
      | none => rw [Option.none_or, Option.none_or]; rfl
      | some w => rw [Option.some_or, Option.some_or]; rfl
    · rw [tc_chb t hc hc (Or.inr q), pk_un q]
  · rw [tc_se_c hc hd0, pk_us]
  · rw [tc_cm_c hc hd0, h0, pk_us]
    rfl
theorem tc_noteK (h : tc_K V lv o a1 a2 a3 a4 a5 a6 a7 a8 a9 a10) (hc : c < 4) (hx : x < 16) (hn : lv c = n + 1) (hr : ∀ d, d < 4 → d ≠ c → tc_bf o d x (lv d) = none) (hb : tc_cok b1 b2 b3 b4 V) :
    tc_K V lv o b1 b2 b3 b4 a5 (upd a6 (c * 3 + n) (a6 (c * 3 + n) ||| ((1 : Int32) <<< (nI x &&& 31)))) a7 a8 a9 a10 ∧
    ∀ d, d < 4 → d ≠ c → tc_or (upd a6 (c * 3 + n) (a6 (c * 3 + n) ||| ((1 : Int32) <<< (nI x &&& 31)))) d (lv d) = tc_or a6 d (lv d) := by
  obtain ⟨k, t, e⟩ := h
  have h3 := (t.1 c hc).2
  have ho : ∀ d, d < 4 → d ≠ c → tc_or (upd a6 (c * 3 + n) (a6 (c * 3 + n) ||| ((1 : Int32) <<< (nI x &&& 31)))) d (lv d) = tc_or a6 d (lv d) := by
    intro d hd hne
    have := (t.1 d hd).2
    exact tc_orc _ (fun l hl => pk_un (by omega))
  refine ⟨⟨hb, t, fun c' d y hc' hd hne hy hs => ?_⟩, ho⟩
  obtain ⟨q1, q2⟩ := e c' d y hc' hd hne hy hs
  refine ⟨q1, ?_⟩
  by_cases q : d = c
  · rw [q] at hne q2 ⊢
    have hyx : y ≠ x := by
      intro e2
      rw [e2, hr c' hc' (Ne.symm hne)] at hs
      exact absurd hs (by simp)
    rw [hn] at q2 ⊢
    show tc_bt (tc_or (upd a6 (c * 3 + n) (a6 (c * 3 + n) ||| ((1 : Int32) <<< (nI x &&& 31)))) c n ||| upd a6 (c * 3 + n) (a6 (c * 3 + n) ||| ((1 : Int32) <<< (nI x &&& 31))) (c * 3 + n)) y = false
    have q2' : tc_bt (tc_or a6 c n ||| a6 (c * 3 + n)) y = false := q2
    rw [pk_us, tc_orc (a := upd a6 (c * 3 + n) (a6 (c * 3 + n) ||| ((1 : Int32) <<< (nI x &&& 31)))) (b := a6) n (fun l hl => pk_un (by omega)), ← tc_ora, tc_bor, q2', tc_bone x hx y hy, decide_eq_false hyx]
    rfl
  · rw [ho d hd q]; exact q2
end
end
section
theorem tc_bf_up {o : Nat → Nat → Option Int32} {c x n : Nat} {v : Int32} (h : tc_bf o c x n = some v) : ∀ k, tc_bf o c x (n + k) = some v := by
  intro k
  induction k with
  | zero => exact h
  | succ k ih =>
    show (tc_bf o c x (n + k)).or _ = some v
    rw [ih, Option.some_or]
theorem tc_bf_at {o : Nat → Nat → Option Int32} {c x i n : Nat} {v : Int32} (h : tc_bf o c x i = none) (ho : o (c * 3 + i) x = some v) (hi : i < n) : tc_bf o c x n = some v := by
  have e : tc_bf o c x (i + 1) = some v := by
    show (tc_bf o c x i).or (o (c * 3 + i) x) = some v
    rw [h, Option.none_or, ho]
  have e2 := tc_bf_up e (n - (i + 1))
  rw [show i + 1 + (n - (i + 1)) = n by omega] at e2
  exact e2
def tc_wn : Option Nat → Int32
  | none => -1
  | some d => nI d
section
variable {a1 a2 a3 a4 a5 a6 a7 a8 a9 a10 V : Nat → Int32} {lv : Nat → Nat} {o : Nat → Nat → Option Int32} {post : Int32 → Prop} {c x : Nat}
theorem tc_isCore (hc : c < 4) (h : post 1) : wpX_isCore post () (nI c) := by
  unfold wpX_isCore
  exact br_f (nI_pos (by omega)) (br_f (nI_ge (b := 4) hc (by decide)) h)
theorem tc_isCell (hx : x < 16) (h : post 1) : wpX_isCell post () (nI x) := by
  unfold wpX_isCell
  exact br_f (nI_pos (by omega)) (br_f (nI_ge (b := 16) hx (by decide)) h)
theorem tc_level (ht : tc_tx lv o a5 a7 a8 a9 a10) (hc : c < 4) (h : post (nI (lv c))) : wpX_level post (a1, a2, a3, a4, a5, a6, a7, a8, a9, a10) (nI c) := by
  unfold wpX_level
  dsimp only
  refine tc_isCore hc (br_f (by decide) ⟨vp_in_nI hc (by decide), ?_⟩)
  rw [nI_clamp (show c < 2 ^ 31 by omega), (ht.1 c hc).1]
  exact h
theorem tc_writtenSet (ht : tc_tx lv o a5 a7 a8 a9 a10) (hc : c < 4) (h : post (tc_or a7 c (lv c))) : wpX_writtenSet post (a1, a2, a3, a4, a5, a6, a7, a8, a9, a10) (nI c) := by
  have e5 := (ht.1 c hc).1
  have h3 := (ht.1 c hc).2
  refine pk_loop (σ := Int32) (fun n i s => wX_writtenSet_4 post (nI c) a1 a2 a3 a4 a5 a6 a7 a8 a9 a10 n s (nI i)) (fun i s => s = tc_or a7 c i) (lv c) 0 0 (by omega) rfl ?_ ?_
  · intro n s hs
    refine And.intro (vp_in_nI hc (by decide)) ?_
    rw [nI_clamp (show c < 2 ^ 31 by omega), e5]
    exact pk_le (lv c) (lv c) (fun _ => by rw [hs]; exact h) (fun z => absurd z (by omega))
  · intro n i s hi hs hw
    refine And.intro (vp_in_nI hc (by decide)) ?_
    rw [nI_clamp (show c < 2 ^ 31 by omega), e5, tc_three, nI_clamp (show c * 3 + i < 2 ^ 31 by omega)]
    refine pk_le (lv c) i (fun z => absurd z (by omega)) (fun _ => ⟨vp_in_nI (by omega) (by decide), nm_e (nm_r (nI_1 i) (hw _ ?_))⟩)
    rw [hs]
    rfl
theorem tc_readSet (ht : tc_tx lv o a5 a7 a8 a9 a10) (hc : c < 4) (h : post (tc_or a6 c (lv c))) : wpX_readSet post (a1, a2, a3, a4, a5, a6, a7, a8, a9, a10) (nI c) := by
  have e5 := (ht.1 c hc).1
  have h3 := (ht.1 c hc).2
  refine pk_loop (σ := Int32) (fun n i s => wX_readSet_4 post (nI c) a1 a2 a3 a4 a5 a6 a7 a8 a9 a10 n s (nI i)) (fun i s => s = tc_or a6 c i) (lv c) 0 0 (by omega) rfl ?_ ?_
  · intro n s hs
    refine And.intro (vp_in_nI hc (by decide)) ?_
    rw [nI_clamp (show c < 2 ^ 31 by omega), e5]
    exact pk_le (lv c) (lv c) (fun _ => by rw [hs]; exact h) (fun z => absurd z (by omega))
  · intro n i s hi hs hw
    refine And.intro (vp_in_nI hc (by decide)) ?_
    rw [nI_clamp (show c < 2 ^ 31 by omega), e5, tc_three, nI_clamp (show c * 3 + i < 2 ^ 31 by omega)]
    refine pk_le (lv c) i (fun z => absurd z (by omega)) (fun _ => ⟨vp_in_nI (by omega) (by decide), nm_e (nm_r (nI_1 i) (hw _ ?_))⟩)
    rw [hs]
    rfl
theorem tc_writerOf (ht : tc_tx lv o a5 a7 a8 a9 a10) (hx : x < 16) (h : post (tc_wn (tc_wo o lv x 4))) : wpX_writerOf post (a1, a2, a3, a4, a5, a6, a7, a8, a9, a10) (nI x) := by
  refine pk_loop (σ := Unit) (fun n i _ => wX_writerOf_2 post (nI x) a1 a2 a3 a4 a5 a6 a7 a8 a9 a10 n (nI i)) (fun i _ => tc_wo o lv x i = none) 4 0 () (by omega) rfl ?_ ?_
  · intro n _ hn
    rw [hn] at h
    exact pk_le 4 4 (fun _ => h) (fun z => absurd z (by omega))
  · intro n i _ hi hn hw
    refine pk_le 4 i (fun z => absurd z (by omega)) (fun _ => tc_writtenSet ht hi ?_)
    have hb := tc_lgw ht hi hx (lv i) (Nat.le_refl _)
    refine br_c (fun e => nm_r (nI_1 i) (hw () ?_)) (fun e => ?_)
    · rw [tc_bit0 _ hx, hb] at e
      show (tc_wo o lv x i).or (if (tc_bf o i x (lv i)).isSome = true then some i else none) = none
      rw [hn, e]
      rfl
    · rw [tc_bit0 _ hx, hb] at e
      have q : (tc_bf o i x (lv i)).isSome = true := by
        cases q : (tc_bf o i x (lv i)).isSome with
        | false => exact absurd q e
        | true => rfl
      rw [tc_wo_at hi hn q] at h
      exact h
theorem tc_before (hk : tc_cok a1 a2 a3 a4 V) (ht : tc_tx lv o a5 a7 a8 a9 a10) (hc : c < 4) (hx : x < 16) (h : post ((tc_bf o c x (lv c)).getD (V x))) : wpX_before post (a1, a2, a3, a4, a5, a6, a7, a8, a9, a10) (nI c) (nI x) := by
  have e5 := (ht.1 c hc).1
  have h3 := (ht.1 c hc).2
  refine pk_loop (σ := Unit) (fun n i _ => wX_before_2 post (nI c) (nI x) a1 a2 a3 a4 a5 a6 a7 a8 a9 a10 n (nI i)) (fun i _ => tc_bf o c x i = none) (lv c) 0 () (by omega) rfl ?_ ?_
  · intro n _ hn
    refine And.intro (vp_in_nI hc (by decide)) ?_
    rw [nI_clamp (show c < 2 ^ 31 by omega), e5]
    refine pk_le (lv c) (lv c) (fun _ => tc_newest hk hx ?_) (fun z => absurd z (by omega))
    rw [hn] at h
    exact h
  · intro n i _ hi hn hw
    refine And.intro (vp_in_nI hc (by decide)) ?_
    rw [nI_clamp (show c < 2 ^ 31 by omega), e5]
    refine pk_le (lv c) i (fun z => absurd z (by omega)) (fun _ => nm_r (tc_three c i) ?_)
    obtain ⟨m, m1, m2, m3, m4, m5, m6⟩ := ht.2 c i hc hi
    refine pk_loop (σ := Unit) (fun n' k _ => wX_before_22 post (wX_before_2 post (nI c) (nI x) a1 a2 a3 a4 a5 a6 a7 a8 a9 a10 n) (nI c) (nI x) (nI i) (nI (c * 3 + i)) a1 a2 a3 a4 a5 a6 a7 a8 a9 a10 n' (nI k)) (fun k _ => ∀ j, j < k → ¬ a9 ((c * 3 + i) * 16 + j) = nI x) m 0 () (by omega) (fun j hj => absurd hj (by omega)) ?_ ?_
    · intro n' _ hj
      refine And.intro (vp_in_nI (by omega) (by decide)) ?_
      rw [nI_clamp (show c * 3 + i < 2 ^ 31 by omega), m2]
      refine pk_le m m (fun _ => nm_r (nI_1 i) (hw () ?_)) (fun z => absurd z (by omega))
      show (tc_bf o c x i).or (o (c * 3 + i) x) = none
      rw [hn, Option.none_or]
      cases e : o (c * 3 + i) x with
      | none => rfl
      | some v =>
        obtain ⟨k, hk', e2⟩ := m4 x hx v e
        exact absurd e2 (hj k hk')
    · intro n' k _ hk' hj hw'
      refine And.intro (vp_in_nI (by omega) (by decide)) ?_
      rw [nI_clamp (show c * 3 + i < 2 ^ 31 by omega), m2, tc_six, nI_clamp (show (c * 3 + i) * 16 + k < 2 ^ 31 by omega)]
      refine pk_le m k (fun z => absurd z (by omega)) (fun _ => ⟨vp_in_nI (by omega) (by decide), br_c (fun e => ⟨vp_in_nI (by omega) (by decide), ?_⟩) (fun e => nm_r (nI_1 k) (hw' () ?_))⟩)
      · obtain ⟨y, y1, y2, y3⟩ := m3 k hk'
        rw [tc_inj y1 hx (y2.symm.trans e)] at y3
        rw [tc_bf_at hn y3 hi] at h
        exact h
      · intro j hj'
        rcases Nat.lt_or_ge j k with q | q
        · exact hj j q
        · rw [show j = k by omega]; exact e
theorem tc_committedIn (hk : tc_cok a1 a2 a3 a4 V) (ht : tc_tx lv o a5 a7 a8 a9 a10) (hx : x < 16) (h : post (tc_cm o lv V x)) : wpX_committedIn post (a1, a2, a3, a4, a5, a6, a7, a8, a9, a10) (nI x) := by
  unfold wpX_committedIn
  dsimp only
  refine tc_writerOf ht hx ?_
  unfold tc_cm at h
  cases e : tc_wo o lv x 4 with
  | none =>
    rw [e] at h
    exact br_f (by decide) (tc_newest hk hx h)
  | some d =>
    rw [e] at h
    have h4 := (tc_wo_some 4 e).1
    exact br_t (nI_pos' (by omega)) (tc_before hk ht h4 hx h)
theorem tc_digest (hk : tc_cok a1 a2 a3 a4 V) (ht : tc_tx lv o a5 a7 a8 a9 a10) (h : post (tc_dg (tc_cm o lv V) 16)) : wpX_digest post (a1, a2, a3, a4, a5, a6, a7, a8, a9, a10) := by
  refine pk_loop (σ := Int32) (fun n i s => wX_digest_4 post a1 a2 a3 a4 a5 a6 a7 a8 a9 a10 n s (nI i)) (fun i s => s = tc_dg (tc_cm o lv V) i) 16 0 0 (by omega) rfl ?_ ?_
  · intro n s hs
    exact pk_le 16 16 (fun _ => by rw [hs]; exact h) (fun z => absurd z (by omega))
  · intro n i s hi hs hw
    refine pk_le 16 i (fun z => absurd z (by omega)) (fun _ => tc_committedIn hk ht hi (nm_e (nm_r (nI_1 i) (hw _ ?_))))
    rw [hs]
    rfl
theorem tc_rivalsOf {w : Int32} (ht : tc_tx lv o a5 a7 a8 a9 a10) (hc : c < 4) (hx : x < 16) (h : post (tc_rv (fun d => tc_bt (tc_th a6 a7 lv w d) x) c 4)) : wpX_rivalsOf post (a1, a2, a3, a4, a5, a6, a7, a8, a9, a10) (nI c) (nI x) w := by
  refine pk_loop (σ := Int32) (fun n i s => wX_rivalsOf_6 post (nI c) (nI x) w a1 a2 a3 a4 a5 a6 a7 a8 a9 a10 n s (nI i)) (fun i s => s = tc_rv (fun d => tc_bt (tc_th a6 a7 lv w d) x) c i) 4 0 0 (by omega) rfl ?_ ?_
  · intro n s hs
    exact pk_le 4 4 (fun _ => by rw [hs]; exact h) (fun z => absurd z (by omega))
  · intro n i s hi hs hw
    refine pk_le 4 i (fun z => absurd z (by omega)) (fun _ => tc_writtenSet ht hi ?_)
    have key : ∀ t, t = tc_th a6 a7 lv w i → wX_rivalsOf_35 post (wX_rivalsOf_6 post (nI c) (nI x) w a1 a2 a3 a4 a5 a6 a7 a8 a9 a10 n) (nI c) (nI x) w s (nI i) t a1 a2 a3 a4 a5 a6 a7 a8 a9 a10 := by
      intro t et
      unfold wX_rivalsOf_35
      refine pk_eq i c (fun e => nm_e (nm_r (nI_1 i) (hw _ ?_))) (fun e => br_c (fun z => nm_e (nm_r (nI_1 i) (hw _ ?_))) (fun z => nm_e (nm_r (nI_1 i) (hw _ ?_))))
      · show s ||| 0 = tc_rv (fun d => tc_bt (tc_th a6 a7 lv w d) x) c i ||| (if i = c then 0 else if tc_bt (tc_th a6 a7 lv w i) x = true then (1 : Int32) <<< (nI i &&& 31) else 0)
        rw [if_pos e, hs]
      · rw [tc_bit0 _ hx, et] at z
        show s ||| 0 = tc_rv (fun d => tc_bt (tc_th a6 a7 lv w d) x) c i ||| (if i = c then 0 else if tc_bt (tc_th a6 a7 lv w i) x = true then (1 : Int32) <<< (nI i &&& 31) else 0)
        rw [if_neg e, z, hs]
        rfl
      · rw [tc_bit0 _ hx, et] at z
        show s ||| ((1 : Int32) <<< (nI i &&& 31)) = tc_rv (fun d => tc_bt (tc_th a6 a7 lv w d) x) c i ||| (if i = c then 0 else if tc_bt (tc_th a6 a7 lv w i) x = true then (1 : Int32) <<< (nI i &&& 31) else 0)
        have q : tc_bt (tc_th a6 a7 lv w i) x = true := by
          cases q : tc_bt (tc_th a6 a7 lv w i) x with
          | false => exact absurd q z
          | true => rfl
        rw [if_neg e, if_pos q, hs]
    refine br_c (fun e => key _ ?_) (fun e => tc_readSet ht hi (nm_e (key _ ?_)))
    · unfold tc_th
      rw [if_pos e]
    · unfold tc_th
      rw [if_neg e]
theorem tc_rivals (ht : tc_tx lv o a5 a7 a8 a9 a10) (hc : c < 4) (hx : x < 16) (h : post (tc_rv (fun d => tc_bt (tc_th a6 a7 lv 0 d) x) c 4)) : wpX_rivals post (a1, a2, a3, a4, a5, a6, a7, a8, a9, a10) (nI c) (nI x) 0 := by
  unfold wpX_rivals
  dsimp only
  refine tc_isCore hc (br_f (by decide) (tc_isCell hx (br_f (by decide) (br_t rfl ?_))))
  unfold wX_rivals_23
  refine br_f (by decide) ?_
  unfold wX_rivals_36
  exact tc_rivalsOf ht hc hx h
theorem tc_sees (hk : tc_cok a1 a2 a3 a4 V) (ht : tc_tx lv o a5 a7 a8 a9 a10) (hc : c < 4) (hx : x < 16) (h : post (tc_se o lv V c x)) : wpX_sees post (a1, a2, a3, a4, a5, a6, a7, a8, a9, a10) (nI c) (nI x) := by
  unfold wpX_sees
  dsimp only
  refine tc_isCore hc (br_f (by decide) (tc_isCell hx (br_f (by decide) (tc_writerOf ht hx ?_))))
  unfold tc_se at h
  refine br_c (fun e => tc_newest hk hx ?_) (fun e => tc_committedIn hk ht hx ?_)
  · have q : tc_wo o lv x 4 = some c := by
      cases e2 : tc_wo o lv x 4 with
      | none =>
        rw [e2] at e
        exact absurd (show tc_wn none < 0 by decide) (by rw [e]; exact nI_pos (by omega))
      | some d =>
        rw [e2] at e
        have h4 := (tc_wo_some 4 e2).1
        rw [tc_inj (x := d) (y := c) (by omega) (by omega) e]
    rw [if_pos q] at h
    exact h
  · rw [if_neg (fun z => e (by rw [z]; rfl))] at h
    exact h
theorem tc_committed (hk : tc_cok a1 a2 a3 a4 V) (ht : tc_tx lv o a5 a7 a8 a9 a10) (hx : x < 16) (h : post (tc_cm o lv V x)) : wpX_committed post (a1, a2, a3, a4, a5, a6, a7, a8, a9, a10) (nI x) := by
  unfold wpX_committed
  dsimp only
  exact tc_isCell hx (br_f (by decide) (tc_committedIn hk ht hx h))
theorem tc_readBy (ht : tc_tx lv o a5 a7 a8 a9 a10) (hc : c < 4) (h : post (tc_or a6 c (lv c))) : wpX_readBy post (a1, a2, a3, a4, a5, a6, a7, a8, a9, a10) (nI c) := by
  unfold wpX_readBy
  dsimp only
  exact tc_isCore hc (br_f (by decide) (tc_readSet ht hc h))
theorem tc_writtenBy (ht : tc_tx lv o a5 a7 a8 a9 a10) (hc : c < 4) (h : post (tc_or a7 c (lv c))) : wpX_writtenBy post (a1, a2, a3, a4, a5, a6, a7, a8, a9, a10) (nI c) := by
  unfold wpX_writtenBy
  dsimp only
  exact tc_isCore hc (br_f (by decide) (tc_writtenSet ht hc h))
end
end
section
section
variable {a1 a2 a3 a4 a5 a6 a7 a8 a9 a10 V : Nat → Int32} {lv : Nat → Nat} {o : Nat → Nat → Option Int32} {c x : Nat}
theorem tc_log {post : St1 → Prop} {g : Nat} {w : Int32} {f f' : Nat → Option Int32} (hg : g < 12) (hx : x < 16) (hl : tc_lg a7 a8 a9 a10 g f) (hf : f x = none) (hfx : f' x = some w) (hfy : ∀ y, y ≠ x → f' y = f y)
    (H : ∀ b7 b8 b9 b10, tc_lg b7 b8 b9 b10 g f' → tc_sm g a7 a8 a9 a10 b7 b8 b9 b10 → post (a1, a2, a3, a4, a5, a6, b7, b8, b9, b10)) : wpX_log post (a1, a2, a3, a4, a5, a6, a7, a8, a9, a10) (nI g) (nI x) w := by
  obtain ⟨n, hn, e8, hl'⟩ := tc_lg_add (w := w) hx hl hf hfx hfy
  unfold wpX_log
  dsimp only
  rw [nI_clamp (show g < 2 ^ 31 by omega), e8, tc_six, nI_clamp (show g * 16 + n < 2 ^ 31 by omega), tc_nar x (by omega), nI_1, tc_nar (n + 1) (by omega)]
  exact ⟨vp_in_nI hg (by decide), vp_in_nI (by omega) (by decide), nm_e ⟨vp_in_nI hg (by decide), vp_in_nI (by omega) (by decide), nm_e ⟨vp_in_nI hg (by decide), vp_in_nI hg (by decide), nm_e ⟨vp_in_nI hg (by decide), vp_in_nI hg (by decide), nm_e (H _ _ _ _ hl' (tc_sm_add g n hn _ _ _ _ _ _ _ _))⟩⟩⟩⟩
theorem tc_change {post : St1 → Prop} {v : Int32} (hk : tc_cok a1 a2 a3 a4 V) (ht : tc_tx lv o a5 a7 a8 a9 a10) (hc : c < 4) (hx : x < 16)
    (H : ∀ b1 b2 b3 b4 b7 b8 b9 b10, tc_cok b1 b2 b3 b4 (upd V x v) → tc_tx lv (tc_ch o lv V c x) a5 b7 b8 b9 b10 → post (b1, b2, b3, b4, a5, a6, b7, b8, b9, b10)) : wpX_change post (a1, a2, a3, a4, a5, a6, a7, a8, a9, a10) (nI c) (nI x) v := by
  have e5 := (ht.1 c hc).1
  have h3 := (ht.1 c hc).2
  have st : ∀ b7 b8 b9 b10, tc_tx lv (tc_ch o lv V c x) a5 b7 b8 b9 b10 → wX_change_53 post (nI c) (nI x) v a1 a2 a3 a4 a5 a6 b7 b8 b9 b10 := by
    intro b7 b8 b9 b10 h
    unfold wX_change_53
    exact tc_store hk hc hx (fun b1 b2 b3 b4 hb => H b1 b2 b3 b4 b7 b8 b9 b10 hb h)
  unfold wpX_change
  dsimp only
  rw [nI_clamp (show c < 2 ^ 31 by omega), e5]
  refine ⟨vp_in_nI hc (by decide), ?_⟩
  rcases Nat.eq_zero_or_pos (lv c) with q | q
  · refine pk_le (lv c) 0 (fun _ => st _ _ _ _ ?_) (fun z => absurd z (by omega))
    have e1 : tc_ch o lv V c x = o := by
      unfold tc_ch
      rw [q]
    rw [e1]
    exact ht
  · obtain ⟨n, hn⟩ : ∃ n, lv c = n + 1 := ⟨lv c - 1, by omega⟩
    have e1 : tc_ch o lv V c x = tc_up o (c * 3 + n) x ((o (c * 3 + n) x).getD (V x)) := by
      unfold tc_ch
      rw [hn]
    have lg := ht.2 c n hc (by omega)
    rw [hn]
    refine pk_le (n + 1) 0 (fun z => absurd z (by omega)) (fun _ => ⟨vp_in_nI hc (by decide), nm_r (tc_topi c n) ?_⟩)
    rw [nI_clamp (show c * 3 + n < 2 ^ 31 by omega)]
    refine ⟨vp_in_nI (by omega) (by decide), br_c (fun e => ?_) (fun e => ?_)⟩
    · have hf : o (c * 3 + n) x = none := by
        obtain ⟨m, _, _, _, _, _, m6⟩ := lg
        rw [tc_bit0 _ hx, m6 x hx] at e
        cases q2 : o (c * 3 + n) x with
        | none => rfl
        | some w => rw [q2] at e; exact absurd e (by simp)
      refine tc_newest hk hx (tc_log (f' := tc_ch o lv V c x (c * 3 + n)) (by omega) hx lg hf ?_ ?_ (fun b7 b8 b9 b10 hl hs => ?_))
      · rw [e1, tc_up_s, hf]
        rfl
      · intro y hy
        rw [e1]
        exact tc_up_x hy
      · refine st b7 b8 b9 b10 ⟨ht.1, fun d l hd hl' => ?_⟩
        by_cases q : d * 3 + l = c * 3 + n
        · rw [q]; exact hl
        · have e2 : tc_ch o lv V c x (d * 3 + l) = o (d * 3 + l) := by
            rw [e1]
            funext y
            exact tc_up_g q
          rw [e2]
          exact tc_lg_keep hs q (ht.2 d l hd hl')
    · refine st _ _ _ _ ?_
      obtain ⟨m, _, _, _, _, _, m6⟩ := lg
      rw [tc_bit0 _ hx, m6 x hx] at e
      cases q2 : o (c * 3 + n) x with
      | none => rw [q2] at e; exact absurd rfl e
      | some w =>
        rw [q2] at e1
        rw [e1, show (some w).getD (V x) = w from rfl, tc_up_id q2]
        exact ht
theorem tc_noteRead {post : St1 → Prop} (h : tc_K V lv o a1 a2 a3 a4 a5 a6 a7 a8 a9 a10) (hc : c < 4) (hx : x < 16) (hr : ∀ d, d < 4 → d ≠ c → tc_bf o d x (lv d) = none)
    (H : ∀ b6, tc_K V lv o a1 a2 a3 a4 a5 b6 a7 a8 a9 a10 → (∀ d, d < 4 → d ≠ c → tc_or b6 d (lv d) = tc_or a6 d (lv d)) → post (a1, a2, a3, a4, a5, b6, a7, a8, a9, a10)) : wpX_noteRead post (a1, a2, a3, a4, a5, a6, a7, a8, a9, a10) (nI c) (nI x) := by
  have e5 := (h.2.1.1 c hc).1
  have h3 := (h.2.1.1 c hc).2
  unfold wpX_noteRead
  dsimp only
  rw [nI_clamp (show c < 2 ^ 31 by omega), e5]
  refine ⟨vp_in_nI hc (by decide), ?_⟩
  rcases Nat.eq_zero_or_pos (lv c) with q | q
  · exact pk_le (lv c) 0 (fun _ => H a6 h (fun _ _ _ => rfl)) (fun z => absurd z (by omega))
  · obtain ⟨n, hn⟩ : ∃ n, lv c = n + 1 := ⟨lv c - 1, by omega⟩
    rw [hn, tc_topi, nI_clamp (show c * 3 + n < 2 ^ 31 by omega)]
    obtain ⟨q1, q2⟩ := tc_noteK h hc hx hn hr h.1
    exact pk_le (n + 1) 0 (fun z => absurd z (by omega)) (fun _ => ⟨vp_in_nI hc (by decide), vp_in_nI (by omega) (by decide), vp_in_nI (by omega) (by decide), nm_e (H _ q1 q2)⟩)
theorem tc_undo {post : St1 → Prop} {n : Nat} (hk : tc_cok a1 a2 a3 a4 V) (ht : tc_tx lv o a5 a7 a8 a9 a10) (hc : c < 4) (hn : lv c = n + 1)
    (H : ∀ b1 b2 b3 b4 V', tc_cok b1 b2 b3 b4 V' → (∀ y, y < 16 → V' y = (o (c * 3 + n) y).getD (V y)) → post (b1, b2, b3, b4, upd a5 c (nI n), a6, a7, a8, a9, a10)) : wpX_undo post (a1, a2, a3, a4, a5, a6, a7, a8, a9, a10) (nI c) := by
  have e5 := (ht.1 c hc).1
  have h3 := (ht.1 c hc).2
  rw [hn] at e5
  obtain ⟨m, m1, m2, m3, m4, m5, m6⟩ := ht.2 c n hc (by omega)
  unfold wpX_undo
  dsimp only
  rw [nI_clamp (show c < 2 ^ 31 by omega), e5]
  refine ⟨vp_in_nI hc (by decide), nm_r (tc_topi c n) ?_⟩
  rw [nI_clamp (show c * 3 + n < 2 ^ 31 by omega), m2]
  refine ⟨vp_in_nI (by omega) (by decide), nm_r (show nI m - 1 = nI m + (-1) from Int32.sub_eq_add_neg _ _) ?_⟩
  refine ⟨m + 1, pk_loopD (σ := (Nat → Int32) × (Nat → Int32) × (Nat → Int32) × (Nat → Int32)) (fun f e s => wX_undo_22 post (nI c) (nI (c * 3 + n)) f (nI e + (-1)) s.1 s.2.1 s.2.2.1 s.2.2.2 a5 a6 a7 a8 a9 a10)
    (fun e s => e ≤ m ∧ ∃ V', tc_cok s.1 s.2.1 s.2.2.1 s.2.2.2 V' ∧ (∀ k, e ≤ k → k < m → ∃ y, y < 16 ∧ a9 ((c * 3 + n) * 16 + k) = nI y ∧ o (c * 3 + n) y = some (V' y)) ∧ (∀ y, y < 16 → (∀ k, e ≤ k → k < m → ¬ a9 ((c * 3 + n) * 16 + k) = nI y) → V' y = V y))
    ?_ ?_ m (a1, a2, a3, a4) ⟨Nat.le_refl _, V, hk, fun k h1 h2 => absurd h1 (by omega), fun y _ _ => rfl⟩⟩
  · rintro f ⟨b1, b2, b3, b4⟩ ⟨_, V', k1, k2, k3⟩
    dsimp only at k1 ⊢
    refine br_t (by decide) ?_
    rw [nI_clamp (show c < 2 ^ 31 by omega), e5, nI_pred, tc_nar n (by omega)]
    refine ⟨vp_in_nI hc (by decide), vp_in_nI hc (by decide), nm_e (H _ _ _ _ V' k1 (fun y hy => ?_))⟩
    cases e : o (c * 3 + n) y with
    | some v =>
      obtain ⟨k, hk', e2⟩ := m4 y hy v e
      obtain ⟨y', y1, y2, y3⟩ := k2 k (by omega) hk'
      rw [tc_inj y1 hy (y2.symm.trans e2), e] at y3
      exact (Option.some.inj y3).symm
    | none =>
      refine k3 y hy (fun k _ hk' e2 => ?_)
      obtain ⟨y', y1, y2, y3⟩ := m3 k hk'
      rw [tc_inj y1 hy (y2.symm.trans e2), e] at y3
      exact absurd y3 (by simp)
  · rintro f i ⟨b1, b2, b3, b4⟩ ⟨him, V', k1, k2, k3⟩ hw
    dsimp only at k1 hw ⊢
    rw [pk_m1]
    refine br_f (nI_pos (by omega)) ?_
    rw [tc_six, nI_clamp (show (c * 3 + n) * 16 + i < 2 ^ 31 by omega)]
    obtain ⟨y, y1, y2, y3⟩ := m3 i (by omega)
    rw [y2]
    refine ⟨vp_in_nI (by omega) (by decide), vp_in_nI (by omega) (by decide), tc_store k1 hc y1 (fun d1 d2 d3 d4 hd => nm_e (hw (d1, d2, d3, d4) ⟨by omega, _, hd, fun k h1 h2 => ?_, fun z hz hzn => ?_⟩))⟩
    · by_cases q : k = i
      · rw [q]
        exact ⟨y, y1, y2, by rw [pk_us]; exact y3⟩
      · obtain ⟨y', z1, z2, z3⟩ := k2 k (by omega) h2
        refine ⟨y', z1, z2, ?_⟩
        rw [pk_un (fun e => q (m5 k i h2 (by omega) (by rw [z2, y2, e])))]
        exact z3
    · rw [pk_un (fun e => hzn i (Nat.le_refl _) (by omega) (by rw [y2, e]))]
      exact k3 z hz (fun k h1 h2 => hzn k (by omega) h2)
theorem tc_begin {post : Int32 → St1 → Prop} (ht : tc_tx lv o a5 a7 a8 a9 a10) (hc : c < 4) (H3 : lv c = 3 → post (-1) (a1, a2, a3, a4, a5, a6, a7, a8, a9, a10))
    (H : lv c < 3 → post (nI (lv c + 1)) (a1, a2, a3, a4, upd a5 c (nI (lv c + 1)), upd a6 (c * 3 + lv c) 0, upd a7 (c * 3 + lv c) 0, upd a8 (c * 3 + lv c) 0, a9, a10)) : wpX_begin post (a1, a2, a3, a4, a5, a6, a7, a8, a9, a10) (nI c) := by
  have e5 := (ht.1 c hc).1
  have h3 := (ht.1 c hc).2
  unfold wpX_begin
  dsimp only
  refine tc_isCore hc (br_f (by decide) ?_)
  rw [nI_clamp (show c < 2 ^ 31 by omega), e5, tc_three, nI_1, tc_nar (lv c + 1) (by omega)]
  refine ⟨vp_in_nI hc (by decide), pk_lt (lv c) 3 (fun q => ⟨vp_in_nI hc (by decide), nm_e ?_⟩) (fun q => H3 (by omega))⟩
  rw [nI_clamp (show c * 3 + lv c < 2 ^ 31 by omega)]
  refine ⟨vp_in_nI (by omega) (by decide), nm_e ⟨vp_in_nI (by omega) (by decide), nm_e ⟨vp_in_nI (by omega) (by decide), nm_e ⟨vp_in_nI hc (by decide), vp_in_nI hc (by decide), nm_e ⟨vp_in_nI hc (by decide), ?_⟩⟩⟩⟩⟩
  rw [pk_us]
  exact H q
theorem tc_giveUp {post : Int32 → St1 → Prop} (hk : tc_cok a1 a2 a3 a4 V) (ht : tc_tx lv o a5 a7 a8 a9 a10) (hc : c < 4) (H0 : lv c = 0 → post (-1) (a1, a2, a3, a4, a5, a6, a7, a8, a9, a10))
    (H : ∀ n, lv c = n + 1 → ∀ b1 b2 b3 b4 V', tc_cok b1 b2 b3 b4 V' → (∀ y, y < 16 → V' y = (o (c * 3 + n) y).getD (V y)) → post (nI n) (b1, b2, b3, b4, upd a5 c (nI n), a6, a7, a8, a9, a10)) :
    wpX_giveUp post (a1, a2, a3, a4, a5, a6, a7, a8, a9, a10) (nI c) := by
  have e5 := (ht.1 c hc).1
  have h3 := (ht.1 c hc).2
  unfold wpX_giveUp
  dsimp only
  refine tc_isCore hc (br_f (by decide) ?_)
  rw [nI_clamp (show c < 2 ^ 31 by omega), e5]
  refine ⟨vp_in_nI hc (by decide), pk_eq (lv c) 0 (fun q => H0 q) (fun q => ?_)⟩
  obtain ⟨n, hn⟩ : ∃ n, lv c = n + 1 := ⟨lv c - 1, by omega⟩
  refine tc_undo hk ht hc hn (fun b1 b2 b3 b4 V' h1 h2 => ⟨vp_in_nI hc (by decide), ?_⟩)
  dsimp only
  rw [pk_us]
  exact H n hn b1 b2 b3 b4 V' h1 h2
theorem tc_giveAllUp {post : Int32 → St1 → Prop} (h : tc_K V lv o a1 a2 a3 a4 a5 a6 a7 a8 a9 a10) (hc : c < 4)
    (H : ∀ r b1 b2 b3 b4 b5 V' lv', lv' c = 0 → tc_K V' lv' o b1 b2 b3 b4 b5 a6 a7 a8 a9 a10 → (∀ y, y < 16 → tc_cm o lv' V' y = tc_cm o lv V y) → post r (b1, b2, b3, b4, b5, a6, a7, a8, a9, a10)) :
    wpX_giveAllUp post (a1, a2, a3, a4, a5, a6, a7, a8, a9, a10) (nI c) := by
  have e5 := (h.2.1.1 c hc).1
  have h3 := (h.2.1.1 c hc).2
  unfold wpX_giveAllUp
  dsimp only
  refine tc_isCore hc (br_f (by decide) ?_)
  rw [nI_clamp (show c < 2 ^ 31 by omega)]
  refine ⟨vp_in_nI hc (by decide), nm_r e5 ?_⟩
  refine pk_loop (σ := (Nat → Int32) × (Nat → Int32) × (Nat → Int32) × (Nat → Int32) × (Nat → Int32)) (fun f i s => wX_giveAllUp_18 post (nI c) (nI (lv c)) f (nI i) s.1 s.2.1 s.2.2.1 s.2.2.2.1 s.2.2.2.2 a6 a7 a8 a9 a10)
    (fun i s => ∃ V' lv', lv' c = lv c - i ∧ tc_K V' lv' o s.1 s.2.1 s.2.2.1 s.2.2.2.1 s.2.2.2.2 a6 a7 a8 a9 a10 ∧ (∀ y, y < 16 → tc_cm o lv' V' y = tc_cm o lv V y)) (lv c) 0 (a1, a2, a3, a4, a5) (by omega) ⟨V, lv, by omega, h, fun _ _ => rfl⟩ ?_ ?_
  · rintro f ⟨b1, b2, b3, b4, b5⟩ ⟨V', lv', l1, k1, k2⟩
    exact pk_le (lv c) (lv c) (fun _ => H _ b1 b2 b3 b4 b5 V' lv' (by omega) k1 k2) (fun z => absurd z (by omega))
  · rintro f i ⟨b1, b2, b3, b4, b5⟩ hi ⟨V', lv', l1, k1, k2⟩ hw
    refine pk_le (lv c) i (fun z => absurd z (by omega)) (fun _ => ?_)
    have l2 : lv' c = (lv c - i - 1) + 1 := by omega
    refine tc_undo k1.1 k1.2.1 hc l2 (fun d1 d2 d3 d4 V'' q1 q2 => ?_)
    obtain ⟨r1, r2⟩ := tc_undoK k1 hc l2 q1 q2
    exact nm_r (nI_1 i) (hw (d1, d2, d3, d4, upd b5 c (nI (lv c - i - 1))) ⟨V'', tc_lv lv' c (lv c - i - 1), by rw [tc_lv_s]; omega, r1, fun y hy => (r2 y hy).trans (k2 y hy)⟩)
theorem tc_end {post : Int32 → St1 → Prop} (ht : tc_tx lv o a5 a7 a8 a9 a10) (hc : c < 4) (H0 : lv c = 0 → post (-1) (a1, a2, a3, a4, a5, a6, a7, a8, a9, a10)) (H1 : lv c = 1 → post (nI 0) (a1, a2, a3, a4, upd a5 c (nI 0), a6, a7, a8, a9, a10))
    (H2 : ∀ n, lv c = n + 2 → ∀ b7 b8 b9 b10, tc_sm (c * 3 + n) a7 a8 a9 a10 b7 b8 b9 b10 → tc_lg b7 b8 b9 b10 (c * 3 + n) (fun y => (o (c * 3 + n) y).or (o (c * 3 + (n + 1)) y)) →
      post (nI (n + 1)) (a1, a2, a3, a4, upd a5 c (nI (n + 1)), upd a6 (c * 3 + n) (a6 (c * 3 + n) ||| a6 (c * 3 + (n + 1))), b7, b8, b9, b10)) :
    wpX_end post (a1, a2, a3, a4, a5, a6, a7, a8, a9, a10) (nI c) := by
  have e5 := (ht.1 c hc).1
  have h3 := (ht.1 c hc).2
  unfold wpX_end
  dsimp only
  refine tc_isCore hc (br_f (by decide) ?_)
  rw [nI_clamp (show c < 2 ^ 31 by omega), e5]
  refine ⟨vp_in_nI hc (by decide), pk_eq (lv c) 0 (fun q => H0 q) (fun q => ?_)⟩
  obtain ⟨m, hm⟩ : ∃ m, lv c = m + 1 := ⟨lv c - 1, by omega⟩
  rw [hm, nI_pred, tc_nar m (by omega)]
  refine ⟨vp_in_nI hc (by decide), vp_in_nI hc (by decide), nm_e ?_⟩
  rw [pk_us]
  refine ⟨vp_in_nI hc (by decide), pk_le m 0 (fun q => ⟨vp_in_nI hc (by decide), ?_⟩) (fun q => ⟨vp_in_nI hc (by decide), nm_r (tc_three c m) ?_⟩)⟩
  · have e : m = 0 := by omega
    rw [e] at hm ⊢
    exact H1 hm
  · obtain ⟨n, rfl⟩ : ∃ n, m = n + 1 := ⟨m - 1, by omega⟩
    refine nm_r (show nI (c * 3 + (n + 1)) - 1 = nI (c * 3 + n) from nI_pred (c * 3 + n)) ?_
    rw [nI_clamp (show c * 3 + n < 2 ^ 31 by omega), nI_clamp (show c * 3 + (n + 1) < 2 ^ 31 by omega)]
    refine ⟨vp_in_nI (by omega) (by decide), vp_in_nI (by omega) (by decide), vp_in_nI (by omega) (by decide), nm_e ?_⟩
    have lg0 := ht.2 c n hc (by omega)
    obtain ⟨m, m1, m2, m3, m4, m5, m6⟩ := ht.2 c (n + 1) hc (by omega)
    refine pk_loop (σ := (Nat → Int32) × (Nat → Int32) × (Nat → Int32) × (Nat → Int32)) (fun f i s => wX_end_71 post (nI c) (nI (c * 3 + (n + 1))) (nI (c * 3 + n)) f (nI i) a1 a2 a3 a4 (upd a5 c (nI (n + 1))) (upd a6 (c * 3 + n) (a6 (c * 3 + n) ||| a6 (c * 3 + (n + 1)))) s.1 s.2.1 s.2.2.1 s.2.2.2)
      (fun i s => tc_sm (c * 3 + n) a7 a8 a9 a10 s.1 s.2.1 s.2.2.1 s.2.2.2 ∧ ∃ f : Nat → Option Int32, tc_lg s.1 s.2.1 s.2.2.1 s.2.2.2 (c * 3 + n) f ∧
        (∀ y j, y < 16 → j < i → a9 ((c * 3 + (n + 1)) * 16 + j) = nI y → f y = (o (c * 3 + n) y).or (o (c * 3 + (n + 1)) y)) ∧
        (∀ y, y < 16 → (∀ j, j < i → ¬ a9 ((c * 3 + (n + 1)) * 16 + j) = nI y) → f y = o (c * 3 + n) y)) m 0 (a7, a8, a9, a10) (by omega)
      ⟨tc_sm_r _ _ _ _ _, o (c * 3 + n), lg0, fun y j _ hj => absurd hj (by omega), fun _ _ _ => rfl⟩ ?_ ?_
    · rintro f ⟨b7, b8, b9, b10⟩ ⟨s1, g, g1, g2, g3⟩
      dsimp only at s1 g1 ⊢
      have s8 := (s1.1 (c * 3 + (n + 1)) (by omega)).2
      refine And.intro (vp_in_nI (by omega) (by decide)) ?_
      rw [nI_clamp (show c * 3 + (n + 1) < 2 ^ 31 by omega), s8, m2, nI_clamp (show c < 2 ^ 31 by omega), pk_us]
      refine pk_le m m (fun _ => ⟨vp_in_nI hc (by decide), H2 n (by omega) b7 b8 b9 b10 s1 (tc_lg_cong (fun y hy => ?_) g1)⟩) (fun z => absurd z (by omega))
      cases e : o (c * 3 + (n + 1)) y with
      | some v =>
        obtain ⟨k, hk, e2⟩ := m4 y hy v e
        rw [g2 y k hy hk e2, e]
      | none =>
        rw [Option.or_none]
        refine g3 y hy (fun j hj e2 => ?_)
        obtain ⟨y', y1, y2, y3⟩ := m3 j hj
        rw [tc_inj y1 hy (y2.symm.trans e2), e] at y3
        exact absurd y3 (by simp)
    · rintro f i ⟨b7, b8, b9, b10⟩ hi ⟨s1, g, g1, g2, g3⟩ hw
      dsimp only at s1 g1 hw ⊢
      have s8 := (s1.1 (c * 3 + (n + 1)) (by omega)).2
      obtain ⟨s9, s10⟩ := s1.2 ((c * 3 + (n + 1)) * 16 + i) (by omega)
      obtain ⟨y, y1, y2, y3⟩ := m3 i hi
      have gy : g y = o (c * 3 + n) y := g3 y y1 (fun j hj e => by have := m5 j i (by omega) hi (by rw [e, y2]); omega)
      refine And.intro (vp_in_nI (by omega) (by decide)) ?_
      rw [nI_clamp (show c * 3 + (n + 1) < 2 ^ 31 by omega), s8, m2, tc_six, nI_clamp (show (c * 3 + (n + 1)) * 16 + i < 2 ^ 31 by omega), s9, s10, y2]
      refine pk_le m i (fun z => absurd z (by omega)) (fun _ => ⟨vp_in_nI (by omega) (by decide), nm_e ?_⟩)
      rw [nI_clamp (show c * 3 + n < 2 ^ 31 by omega)]
      have bit : tc_bt (b7 (c * 3 + n)) y = (g y).isSome := by
        obtain ⟨_, _, _, _, _, _, q6⟩ := g1
        exact q6 y y1
      refine ⟨vp_in_nI (by omega) (by decide), br_c (fun e => ⟨vp_in_nI (by omega) (by decide), ?_⟩) (fun e => nm_r (nI_1 i) (hw (b7, b8, b9, b10) ⟨s1, g, g1, fun z j hz hj ez => ?_, fun z hz hzn => g3 z hz (fun j hj => hzn j (by omega))⟩))⟩
      · rw [tc_bit0 _ y1, bit] at e
        have hf : g y = none := by
          cases q2 : g y with
          | none => rfl
          | some w => rw [q2] at e; exact absurd e (by simp)
        refine tc_log (f' := fun z => if z = y then some (a10 ((c * 3 + (n + 1)) * 16 + i)) else g z) (by omega) y1 g1 hf (if_pos rfl) (fun z hz => if_neg hz) (fun d7 d8 d9 d10 hl hs => ?_)
        refine nm_r (nI_1 i) (hw (d7, d8, d9, d10) ⟨tc_sm_t s1 hs, _, hl, fun z j hz hj ez => ?_, fun z hz hzn => ?_⟩)
        · skip
          by_cases q : z = y
          · rw [if_pos q, q, ← gy, hf, Option.none_or, y3]
          · rw [if_neg q]
            refine g2 z j hz ?_ ez
            by_cases q2 : j = i
            · rw [q2, y2] at ez
              exact absurd (tc_inj y1 hz ez).symm q
            · omega
        · skip
          rw [if_neg (fun q => hzn i (by omega) (by rw [y2, q]))]
          exact g3 z hz (fun j hj => hzn j (by omega))
      · rw [tc_bit0 _ y1, bit] at e
        by_cases q2 : j = i
        · rw [q2, y2] at ez
          have ezy : y = z := tc_inj y1 hz ez
          rw [← ezy]
          cases q3 : g y with
          | none => rw [q3] at e; exact absurd rfl e
          | some w => rw [← gy, q3, Option.some_or]
        · exact g2 z j hz (by omega) ez
theorem tc_hr0 (ht : tc_tx lv o a5 a7 a8 a9 a10) (hx : x < 16) (h : tc_rv (fun d => tc_bt (tc_th a6 a7 lv 0 d) x) c 4 = 0) : ∀ d, d < 4 → d ≠ c → tc_bf o d x (lv d) = none := by
  intro d hd hne
  have q := (tc_rv0 4 (by omega)).mp h d hd hne
  have q2 : tc_bt (tc_or a7 d (lv d)) x = false := q
  rw [tc_lgw ht hd hx (lv d) (Nat.le_refl _)] at q2
  cases e : tc_bf o d x (lv d) with
  | none => rfl
  | some v => rw [e] at q2; exact absurd q2 (by simp)
theorem tc_hr1 (ht : tc_tx lv o a5 a7 a8 a9 a10) (hx : x < 16) (h : tc_rv (fun d => tc_bt (tc_th a6 a7 lv 1 d) x) c 4 = 0) : ∀ d, d < 4 → d ≠ c → tc_bf o d x (lv d) = none ∧ tc_bt (tc_or a6 d (lv d)) x = false := by
  intro d hd hne
  have q := (tc_rv0 4 (by omega)).mp h d hd hne
  have q2 : tc_bt (tc_or a7 d (lv d) ||| tc_or a6 d (lv d)) x = false := q
  rw [tc_bor, Bool.or_eq_false_iff, tc_lgw ht hd hx (lv d) (Nat.le_refl _)] at q2
  refine ⟨?_, q2.2⟩
  cases e : tc_bf o d x (lv d) with
  | none => rfl
  | some v => rw [e] at q2; exact absurd q2.1 (by simp)
theorem tc_read {post : Int32 → St1 → Prop} (h : tc_K V lv o a1 a2 a3 a4 a5 a6 a7 a8 a9 a10) (hc : c < 4) (hx : x < 16)
    (Hc : ¬ tc_rv (fun d => tc_bt (tc_th a6 a7 lv 0 d) x) c 4 = 0 → post (-2) (a1, a2, a3, a4, a5, a6, a7, a8, a9, a10))
    (H : tc_rv (fun d => tc_bt (tc_th a6 a7 lv 0 d) x) c 4 = 0 → ∀ b1 b2 b3 b4 b6, tc_K V lv o b1 b2 b3 b4 a5 b6 a7 a8 a9 a10 → post 0 (b1, b2, b3, b4, a5, b6, a7, a8, a9, a10)) :
    wpX_read post (a1, a2, a3, a4, a5, a6, a7, a8, a9, a10) (nI c) (nI x) := by
  unfold wpX_read
  dsimp only
  refine tc_isCore hc (br_f (by decide) (tc_isCell hx (br_f (by decide) (tc_rivalsOf h.2.1 hc hx (br_c (fun e => ?_) (fun e => Hc e))))))
  refine tc_fetch h.1 hc hx (fun b1 b2 b3 b4 hb _ => ?_)
  have h' : tc_K V lv o b1 b2 b3 b4 a5 a6 a7 a8 a9 a10 := ⟨hb, h.2⟩
  exact tc_noteRead h' hc hx (tc_hr0 h.2.1 hx e) (fun b6 hK _ => H e b1 b2 b3 b4 b6 hK)
theorem tc_write {post : Int32 → St1 → Prop} {v : Int32} (h : tc_K V lv o a1 a2 a3 a4 a5 a6 a7 a8 a9 a10) (hc : c < 4) (hx : x < 16) (Hc : post (-2) (a1, a2, a3, a4, a5, a6, a7, a8, a9, a10))
    (H : (∀ d, d < 4 → d ≠ c → tc_bf o d x (lv d) = none) → ∀ b1 b2 b3 b4 b6 b7 b8 b9 b10, tc_K (upd V x v) lv (tc_ch o lv V c x) b1 b2 b3 b4 a5 b6 b7 b8 b9 b10 → (0 < lv c → ∀ y, y < 16 → tc_cm (tc_ch o lv V c x) lv (upd V x v) y = tc_cm o lv V y) →
      tc_se (tc_ch o lv V c x) lv (upd V x v) c x = v → (lv c = 0 → tc_cm (tc_ch o lv V c x) lv (upd V x v) x = v) → post 0 (b1, b2, b3, b4, a5, b6, b7, b8, b9, b10)) :
    wpX_write post (a1, a2, a3, a4, a5, a6, a7, a8, a9, a10) (nI c) (nI x) v := by
  unfold wpX_write
  dsimp only
  refine tc_isCore hc (br_f (by decide) (tc_isCell hx (br_f (by decide) (tc_rivalsOf h.2.1 hc hx (br_c (fun e => ?_) (fun e => Hc))))))
  have hr := tc_hr1 h.2.1 hx e
  refine tc_change h.1 h.2.1 hc hx (fun b1 b2 b3 b4 b7 b8 b9 b10 hb ht => ?_)
  obtain ⟨q1, q2, q3, q4⟩ := tc_changeK h hc hx hr hb ht
  exact H (fun d hd hne => (hr d hd hne).1) b1 b2 b3 b4 a6 b7 b8 b9 b10 q1 q2 q3 q4
theorem tc_add {post : Int32 → St1 → Prop} {v : Int32} (h : tc_K V lv o a1 a2 a3 a4 a5 a6 a7 a8 a9 a10) (hc : c < 4) (hx : x < 16) (Hc : post (-2) (a1, a2, a3, a4, a5, a6, a7, a8, a9, a10))
    (H : (∀ d, d < 4 → d ≠ c → tc_bf o d x (lv d) = none) → ∀ b1 b2 b3 b4 b6 b7 b8 b9 b10, tc_K (upd V x (V x + v)) lv (tc_ch o lv V c x) b1 b2 b3 b4 a5 b6 b7 b8 b9 b10 → (0 < lv c → ∀ y, y < 16 → tc_cm (tc_ch o lv V c x) lv (upd V x (V x + v)) y = tc_cm o lv V y) →
      tc_se (tc_ch o lv V c x) lv (upd V x (V x + v)) c x = V x + v → (lv c = 0 → tc_cm (tc_ch o lv V c x) lv (upd V x (V x + v)) x = V x + v) → post 0 (b1, b2, b3, b4, a5, b6, b7, b8, b9, b10)) :
    wpX_add post (a1, a2, a3, a4, a5, a6, a7, a8, a9, a10) (nI c) (nI x) v := by
  unfold wpX_add
  dsimp only
  refine tc_isCore hc (br_f (by decide) (tc_isCell hx (br_f (by decide) (tc_rivalsOf h.2.1 hc hx (br_c (fun e => ?_) (fun e => Hc))))))
  have hr := tc_hr1 h.2.1 hx e
  refine tc_fetch h.1 hc hx (fun b1 b2 b3 b4 hb hh => ?_)
  have h' : tc_K V lv o b1 b2 b3 b4 a5 a6 a7 a8 a9 a10 := ⟨hb, h.2⟩
  refine tc_noteRead h' hc hx (fun d hd hne => (hr d hd hne).1) (fun b6 hK h6 => ?_)
  dsimp only
  refine tc_lineOf hx ⟨vp_in_nI (by omega) (by decide), nm_r (show b4 (nI (c * 4 + x % 4)).toNatClampNeg = V x from ?_) ?_⟩
  · rw [nI_clamp (by omega)]
    exact hb.1 c x hc hx hh
  · refine tc_change hb h.2.1 hc hx (fun d1 d2 d3 d4 d7 d8 d9 d10 hd ht => ?_)
    obtain ⟨q1, q2, q3, q4⟩ := tc_changeK hK hc hx (fun d hd hne => ⟨(hr d hd hne).1, by rw [h6 d hd hne]; exact (hr d hd hne).2⟩) hd ht
    exact H (fun d hd hne => (hr d hd hne).1) d1 d2 d3 d4 b6 d7 d8 d9 d10 q1 q2 q3 q4
end
end
section
def tc_vx (f : Nat → Int32) (v : Int64) : Nat → Int64
  | 0 => v
  | n + 1 => tc_vx f v n * 31 + (f n).toInt64
def tc_vc (v : Int64) (r w : Nat → Int32) (s : Nat → Nat → Int32) : Nat → Int64
  | 0 => v
  | n + 1 => tc_vx (s n) ((tc_vc v r w s n * 31 + (r n).toInt64 * 65537) + (w n).toInt64) 16
theorem tc_vxc {f f' : Nat → Int32} {v : Int64} : ∀ n, (∀ x, x < n → f x = f' x) → tc_vx f v n = tc_vx f' v n := by
  intro n
  induction n with
  | zero => intro _; rfl
  | succ n ih =>
    intro h
    show tc_vx f v n * 31 + (f n).toInt64 = tc_vx f' v n * 31 + (f' n).toInt64
    rw [ih (fun x hx => h x (by omega)), h n (by omega)]
theorem tc_vcc {v : Int64} {r r' w w' : Nat → Int32} {s s' : Nat → Nat → Int32} : ∀ n, (∀ c, c < n → r c = r' c ∧ w c = w' c ∧ ∀ x, x < 16 → s c x = s' c x) → tc_vc v r w s n = tc_vc v r' w' s' n := by
  intro n
  induction n with
  | zero => intro _; rfl
  | succ n ih =>
    intro h
    show tc_vx (s n) ((tc_vc v r w s n * 31 + (r n).toInt64 * 65537) + (w n).toInt64) 16 = tc_vx (s' n) ((tc_vc v r' w' s' n * 31 + (r' n).toInt64 * 65537) + (w' n).toInt64) 16
    obtain ⟨h1, h2, h3⟩ := h n (by omega)
    rw [ih (fun c hc => h c (by omega)), h1, h2]
    exact tc_vxc 16 h3
section
variable {a1 a2 a3 a4 a5 a6 a7 a8 a9 a10 V : Nat → Int32} {lv : Nat → Nat} {o : Nat → Nat → Option Int32}
theorem tc_view {post : Int64 → Prop} (hk : tc_cok a1 a2 a3 a4 V) (ht : tc_tx lv o a5 a7 a8 a9 a10)
    (h : post (tc_vc (tc_dg (tc_cm o lv V) 16).toInt64 (fun c => tc_or a6 c (lv c)) (fun c => tc_or a7 c (lv c)) (tc_se o lv V) 4)) : wpL_view post (a1, a2, a3, a4, a5, a6, a7, a8, a9, a10) := by
  unfold wpL_view
  dsimp only
  refine tc_digest hk ht ?_
  refine pk_loop (σ := Int64) (fun n i s => wL_view_8 post a1 a2 a3 a4 a5 a6 a7 a8 a9 a10 n s (nI i)) (fun i s => s = tc_vc (tc_dg (tc_cm o lv V) 16).toInt64 (fun c => tc_or a6 c (lv c)) (fun c => tc_or a7 c (lv c)) (tc_se o lv V) i) 4 0 _ (by omega) rfl ?_ ?_
  · intro n s hs
    exact pk_le 4 4 (fun _ => by rw [hs]; exact h) (fun z => absurd z (by omega))
  · intro n i s hi hs hw
    refine pk_le 4 i (fun z => absurd z (by omega)) (fun _ => tc_readBy ht hi (tc_writtenBy ht hi (nm_e ?_)))
    refine pk_loop (σ := Int64) (fun n' j s' => wL_view_40 post (wL_view_8 post a1 a2 a3 a4 a5 a6 a7 a8 a9 a10 n) (nI i) a1 a2 a3 a4 a5 a6 a7 a8 a9 a10 n' s' (nI j))
      (fun j s' => s' = tc_vx (tc_se o lv V i) ((s * 31 + (tc_or a6 i (lv i)).toInt64 * 65537) + (tc_or a7 i (lv i)).toInt64) j) 16 0 _ (by omega) rfl ?_ ?_
    · intro n' s' hs'
      refine pk_le 16 16 (fun _ => nm_r (nI_1 i) (hw _ ?_)) (fun z => absurd z (by omega))
      rw [hs', hs]
      rfl
    · intro n' j s' hj hs' hw'
      refine pk_le 16 j (fun z => absurd z (by omega)) (fun _ => tc_sees hk ht hi hj (nm_e (nm_r (nI_1 j) (hw' _ ?_))))
      rw [hs']
      rfl
/-! cores -/
theorem tc_c123 {post : Int32 → Prop} {J : Int32 → Int32 → Int32 → Prop} {i y : Nat} {x2 x3 x6 : Int32} (hk : tc_cok a1 a2 a3 a4 V) (ht : tc_tx lv o a5 a7 a8 a9 a10) (hi : i < 4) (hy : y < 16) (h0 : x6 = 0 → tc_bf o i y (lv i) = none) (HJ : J x2 x3 (nI (i + 1))) :
    wL_cores_123 post J (nI y) x2 x3 (nI i) x6 a1 a2 a3 a4 a5 a6 a7 a8 a9 a10 := by
  unfold wL_cores_123
  refine br_c (fun e => tc_sees hk ht hi hy (tc_committed hk ht hy (br_t ?_ (nm_r (nI_1 i) HJ)))) (fun e => nm_r (nI_1 i) HJ)
  unfold tc_se
  rw [if_neg]
  intro z
  have q := (tc_wo_some 4 z).2
  rw [h0 e] at q
  exact absurd q (by simp)
theorem tc_c85 {post : Int32 → Prop} {J : Int32 → Int32 → Int32 → Prop} {i y : Nat} {x2 x3 x6 : Int32} (hk : tc_cok a1 a2 a3 a4 V) (ht : tc_tx lv o a5 a7 a8 a9 a10) (hi : i < 4) (hy : y < 16) (h0 : x6 = 0 → tc_bf o i y (lv i) = none) (HJ : J x2 x3 (nI (i + 1))) :
    wL_cores_85 post J (nI y) x2 (nI i) x6 x3 a1 a2 a3 a4 a5 a6 a7 a8 a9 a10 := by
  have h3 := (ht.1 i hi).2
  unfold wL_cores_85
  refine tc_level ht hi (pk_eq (lv i) 0 (fun e => ?_) (fun e => ?_))
  · unfold wL_cores_100
    refine br_f (by decide) (tc_readBy ht hi (tc_writtenBy ht hi (br_t ?_ (tc_c123 hk ht hi hy h0 HJ))))
    rw [e]
    show (0 : Int32) ||| 0 = 0
    decide
  · unfold wL_cores_100
    exact br_t rfl (tc_c123 hk ht hi hy h0 HJ)
theorem tc_cores {post : Int32 → Prop} {y : Nat} (h : tc_K V lv o a1 a2 a3 a4 a5 a6 a7 a8 a9 a10) (hy : y < 16) (hp : post 1) : wpL_cores post (a1, a2, a3, a4, a5, a6, a7, a8, a9, a10) (nI y) := by
  obtain ⟨hk, ht, he⟩ := h
  refine pk_loop (σ := Int32 × Int32) (fun n i s => wL_cores_7 post (nI y) a1 a2 a3 a4 a5 a6 a7 a8 a9 a10 n s.1 s.2 (nI i))
    (fun i s => (s.1 = 0 ∧ (∀ d, d < i → tc_bf o d y (lv d) = none) ∧ ((∀ d, d < i → tc_bt (tc_or a6 d (lv d)) y = false) → s.2 = 0)) ∨ (∃ e, e < i ∧ (tc_bf o e y (lv e)).isSome = true ∧ s.2 = 1)) 4 0 (0, 0) (by omega)
    (Or.inl ⟨rfl, fun d hd => absurd hd (by omega), fun _ => rfl⟩) ?_ ?_
  · rintro n ⟨s1, s2⟩ hs
    dsimp only at hs ⊢
    refine pk_le 4 4 (fun _ => br_c (fun _ => hp) (fun z => br_t ?_ hp)) (fun z => absurd z (by omega))
    rcases hs with ⟨q, _⟩ | ⟨_, _, _, q⟩
    · exact absurd q z
    · exact q
  · rintro n i ⟨s1, s2⟩ hi hs hw
    dsimp only at hs hw ⊢
    have hb := tc_lgw ht hi hy (lv i) (Nat.le_refl _)
    -- what the next turn needs, by the two flags
    have hA : tc_bf o i y (lv i) = none → tc_bt (tc_or a6 i (lv i)) y = false → wL_cores_7 post (nI y) a1 a2 a3 a4 a5 a6 a7 a8 a9 a10 n s1 s2 (nI (i + 1)) := by
      intro w0 r0
      refine hw (s1, s2) ?_
      rcases hs with ⟨q1, q2, q3⟩ | ⟨e, q1, q2, q3⟩
      · refine Or.inl ⟨q1, fun d hd => ?_, fun z => q3 (fun d hd => z d (by omega))⟩
        rcases Nat.lt_or_ge d i with g | g
        · exact q2 d g
        · rw [show d = i by omega]; exact w0
      · exact Or.inr ⟨e, by omega, q2, q3⟩
    have hB : tc_bf o i y (lv i) = none → tc_bt (tc_or a6 i (lv i)) y = true → wL_cores_7 post (nI y) a1 a2 a3 a4 a5 a6 a7 a8 a9 a10 n s1 (s2 + 1) (nI (i + 1)) := by
      intro w0 r1
      refine hw (s1, s2 + 1) ?_
      rcases hs with ⟨q1, q2, q3⟩ | ⟨e, q1, q2, q3⟩
      · refine Or.inl ⟨q1, fun d hd => ?_, fun z => ?_⟩
        · rcases Nat.lt_or_ge d i with g | g
          · exact q2 d g
          · rw [show d = i by omega]; exact w0
        · have := z i (by omega)
          rw [r1] at this
          exact absurd this (by simp)
      · have := (he e i y (by omega) hi (by omega) hy q2).2
        rw [r1] at this
        exact absurd this (by simp)
    have hC : (tc_bf o i y (lv i)).isSome = true → wL_cores_7 post (nI y) a1 a2 a3 a4 a5 a6 a7 a8 a9 a10 n (s1 + 1) (s2 + 1) (nI (i + 1)) := by
      intro w1
      refine hw (s1 + 1, s2 + 1) (Or.inr ⟨i, by omega, w1, ?_⟩)
      show s2 + 1 = 1
      rcases hs with ⟨q1, q2, q3⟩ | ⟨e, q1, q2, q3⟩
      · rw [q3 (fun d hd => (he i d y hi (by omega) (by omega) hy w1).2)]
        decide
      · have := (he e i y (by omega) hi (by omega) hy q2).1
        rw [this] at w1
        exact absurd w1 (by simp)
    have w0 : ¬ (tc_bf o i y (lv i)).isSome = true → tc_bf o i y (lv i) = none := by
      intro z
      cases q : tc_bf o i y (lv i) with
      | none => rfl
      | some v => rw [q] at z; exact absurd rfl z
    refine pk_le 4 i (fun z => absurd z (by omega)) (fun _ => tc_readBy ht hi (br_c (fun e => ?_) (fun e => ?_)))
    · rw [tc_bit1 _ hy] at e
      unfold wL_cores_32
      refine tc_writtenBy ht hi (br_c (fun e2 => ?_) (fun e2 => ?_))
      · rw [tc_bit1 _ hy, hb] at e2
        unfold wL_cores_53
        refine br_f (by decide) ?_
        unfold wL_cores_67
        refine br_f (by decide) ?_
        unfold wL_cores_78
        exact tc_c85 hk ht hi hy (fun z => absurd z (by decide)) (hC e2)
      · rw [tc_bit1 _ hy, hb] at e2
        unfold wL_cores_53
        refine br_t rfl ?_
        unfold wL_cores_67
        refine br_f (by decide) ?_
        unfold wL_cores_78
        exact tc_c85 hk ht hi hy (fun _ => w0 e2) (hB (w0 e2) e)
    · rw [tc_bit1 _ hy] at e
      have e' : tc_bt (tc_or a6 i (lv i)) y = false := by
        cases q : tc_bt (tc_or a6 i (lv i)) y with
        | false => rfl
        | true => exact absurd q e
      unfold wL_cores_32
      refine tc_writtenBy ht hi (br_c (fun e2 => ?_) (fun e2 => ?_))
      · rw [tc_bit1 _ hy, hb] at e2
        unfold wL_cores_53
        refine br_f (by decide) ?_
        unfold wL_cores_67
        refine br_t rfl (br_f (by decide) ?_)
        unfold wL_cores_78
        exact tc_c85 hk ht hi hy (fun z => absurd z (by decide)) (hC e2)
      · rw [tc_bit1 _ hy, hb] at e2
        unfold wL_cores_53
        refine br_t rfl ?_
        unfold wL_cores_67
        refine br_t rfl (br_t rfl ?_)
        exact tc_c85 hk ht hi hy (fun _ => w0 e2) (hA (w0 e2) e')
end
end
section
theorem tc_lv_back {lv : Nat → Nat} {c m : Nat} : tc_lv (tc_lv lv c m) c (lv c) = lv := by
  funext d
  by_cases q : d = c
  · rw [q, tc_lv_s]
  · rw [tc_lv_n q, tc_lv_n q]
theorem tc_wo_cong {o o' : Nat → Nat → Option Int32} {lv : Nat → Nat} {x : Nat} : ∀ n, (∀ d, d < n → tc_bf o' d x (lv d) = tc_bf o d x (lv d)) → tc_wo o' lv x n = tc_wo o lv x n := by
  intro n
  induction n with
  | zero => intro _; rfl
  | succ n ih =>
    intro h
    unfold tc_wo
    rw [ih (fun d hd => h d (by omega)), h n (by omega)]
theorem tc_cm_cong {o o' : Nat → Nat → Option Int32} {lv : Nat → Nat} {V V' : Nat → Int32} {x : Nat} (h : ∀ d, d < 4 → tc_bf o' d x (lv d) = tc_bf o d x (lv d)) (hV : V' x = V x) : tc_cm o' lv V' x = tc_cm o lv V x := by
  unfold tc_cm
  rw [tc_wo_cong 4 h]
  cases e : tc_wo o lv x 4 with
  | none => exact hV
  | some d =>
    dsimp only
    rw [h d (tc_wo_some 4 e).1, hV]
theorem tc_se_cong {o o' : Nat → Nat → Option Int32} {lv : Nat → Nat} {V V' : Nat → Int32} {c x : Nat} (h : ∀ d, d < 4 → tc_bf o' d x (lv d) = tc_bf o d x (lv d)) (hV : V' x = V x) : tc_se o' lv V' c x = tc_se o lv V c x := by
  unfold tc_se
  rw [tc_wo_cong 4 h, tc_cm_cong h hV, hV]
section
variable {a1 a2 a3 a4 a5 a6 a7 a8 a9 a10 V : Nat → Int32} {lv : Nat → Nat} {o : Nat → Nat → Option Int32} {c x w : Nat} {post : Int32 → St1 → Prop} {g : Int32}
theorem tc_a354 (ht : tc_tx lv o a5 a7 a8 a9 a10) (hc : c < 4) (hw : w < 16) (hl : w = 15 → lv c = 0) (H : post 1 (a1, a2, a3, a4, a5, a6, a7, a8, a9, a10)) : wL_act_354 post (nI w) (nI c) a1 a2 a3 a4 a5 a6 a7 a8 a9 a10 := by
  unfold wL_act_354
  refine pk_lt w 15 (fun _ => H) (fun z => tc_level ht hc (br_t ?_ H))
  rw [hl (by omega)]
  rfl
theorem tc_a337 (hk : tc_cok a1 a2 a3 a4 V) (ht : tc_tx lv o a5 a7 a8 a9 a10) (hc : c < 4) (hw : w < 16) (hd : tc_dg (tc_cm o lv V) 16 = g) (hl : w = 15 → lv c = 0) (H : post 1 (a1, a2, a3, a4, a5, a6, a7, a8, a9, a10)) : wL_act_337 post (nI w) (nI c) g a1 a2 a3 a4 a5 a6 a7 a8 a9 a10 := by
  unfold wL_act_337 wL_act_338
  exact br_t rfl (tc_digest hk ht (br_t hd (tc_a354 ht hc hw hl H)))
theorem tc_a195 (hk : tc_cok a1 a2 a3 a4 V) (ht : tc_tx lv o a5 a7 a8 a9 a10) (hd : tc_dg (tc_cm o lv V) 16 = g) (H : post 1 (a1, a2, a3, a4, a5, a6, a7, a8, a9, a10)) : wL_act_195 post g a1 a2 a3 a4 a5 a6 a7 a8 a9 a10 := by
  unfold wL_act_195
  exact tc_digest hk ht (br_t hd H)
/-- a conflict: nothing was done -/
theorem tc_a122c {v r z : Int32} (hk : tc_cok a1 a2 a3 a4 V) (ht : tc_tx lv o a5 a7 a8 a9 a10) (hw : w < 16) (hd : tc_dg (tc_cm o lv V) 16 = g) (H : post 1 (a1, a2, a3, a4, a5, a6, a7, a8, a9, a10)) :
    wL_act_122 post (nI w) (nI c) (nI x) v z g r (-2) a1 a2 a3 a4 a5 a6 a7 a8 a9 a10 := by
  have key : ∀ due : Int32, wL_act_140 post (nI c) (nI x) z g (-2) due a1 a2 a3 a4 a5 a6 a7 a8 a9 a10 := by
    intro due
    unfold wL_act_140
    refine br_f (by decide) ?_
    unfold wL_act_173 wL_act_178
    exact br_f (by decide) (br_c (fun _ => tc_a195 hk ht hd H) (fun _ => br_f (by decide) (tc_a195 hk ht hd H)))
  unfold wL_act_122
  exact br_c (fun _ => key _) (fun _ => key _)
/-- a write that was done -/
theorem tc_a140 {due z : Int32} (hk : tc_cok a1 a2 a3 a4 V) (ht : tc_tx lv o a5 a7 a8 a9 a10) (hc : c < 4) (hx : x < 16) (hs : tc_se o lv V c x = due) (hz : (z = 0 ∧ tc_dg (tc_cm o lv V) 16 = g) ∨ (z = 1 ∧ tc_cm o lv V x = due))
    (H : post 1 (a1, a2, a3, a4, a5, a6, a7, a8, a9, a10)) : wL_act_140 post (nI c) (nI x) z g 0 due a1 a2 a3 a4 a5 a6 a7 a8 a9 a10 := by
  have k173 : wL_act_173 post z g 0 a1 a2 a3 a4 a5 a6 a7 a8 a9 a10 := by
    unfold wL_act_173 wL_act_178
    refine br_f (by decide) ?_
    rcases hz with ⟨e, hd⟩ | ⟨e, _⟩
    · exact br_t e (tc_a195 hk ht hd H)
    · exact br_f (by rw [e]; decide) (br_t rfl H)
  unfold wL_act_140
  refine br_t rfl (tc_sees hk ht hc hx (br_t hs ?_))
  rcases hz with ⟨e, hd⟩ | ⟨e, hd⟩
  · exact br_t e k173
  · exact br_f (by rw [e]; decide) (tc_committed hk ht hx (br_t hd k173))
theorem tc_act {v : Int32} (h : tc_K V lv o a1 a2 a3 a4 a5 a6 a7 a8 a9 a10) (hc : c < 4) (hx : x < 16) (hw : w < 16)
    (H : ∀ V' lv' o' b1 b2 b3 b4 b5 b6 b7 b8 b9 b10, tc_K V' lv' o' b1 b2 b3 b4 b5 b6 b7 b8 b9 b10 → post 1 (b1, b2, b3, b4, b5, b6, b7, b8, b9, b10)) : wpL_act post (a1, a2, a3, a4, a5, a6, a7, a8, a9, a10) (nI w) (nI c) (nI x) v := by
  have h3 := (h.2.1.1 c hc).2
  have main : ∀ z : Int32, (z = 0 ∧ 0 < lv c ∨ z = 1 ∧ lv c = 0) → wL_act_13 post (nI w) (nI c) (nI x) v z a1 a2 a3 a4 a5 a6 a7 a8 a9 a10 := by
    intro z hz
    unfold wL_act_13
    refine tc_digest h.1 h.2.1 (tc_rivals h.2.1 hc hx ?_)
    refine pk_le 3 w (fun w3 => pk_le 8 w (fun w8 => pk_le 11 w (fun w11 => pk_le 14 w (fun w14 => pk_le 15 w (fun w15 => ?_) (fun w15 => ?_)) (fun w14 => ?_)) (fun w11 => ?_)) (fun w8 => ?_)) (fun w3 => ?_)
    · -- giveAllUp
      refine tc_giveAllUp h hc (fun r b1 b2 b3 b4 b5 V' lv' l0 hK hcm => ?_)
      dsimp only
      unfold wL_act_320
      refine pk_le 14 w (fun _ => ?_) (fun z => absurd z (by omega))
      exact tc_a337 hK.1 hK.2.1 hc hw (tc_dgc 16 hcm) (fun _ => l0) (H _ _ _ _ _ _ _ _ _ _ _ _ _ hK)
    · -- giveUp
      refine tc_giveUp h.1 h.2.1 hc (fun l0 => ?_) (fun n hn b1 b2 b3 b4 V' hb hV => ?_)
      · dsimp only
        unfold wL_act_320
        refine pk_le 14 w (fun _ => ?_) (fun z => absurd z (by omega))
        exact tc_a337 h.1 h.2.1 hc hw rfl (fun _ => l0) (H _ _ _ _ _ _ _ _ _ _ _ _ _ h)
      · obtain ⟨hK, hcm⟩ := tc_undoK h hc hn hb hV
        dsimp only
        unfold wL_act_320
        refine pk_le 14 w (fun _ => ?_) (fun z => absurd z (by omega))
        exact tc_a337 hK.1 hK.2.1 hc hw (tc_dgc 16 hcm) (fun e => absurd e (by omega)) (H _ _ _ _ _ _ _ _ _ _ _ _ _ hK)
    · -- end
      refine tc_end h.2.1 hc (fun l0 => ?_) (fun l1 => ?_) (fun n hn b7 b8 b9 b10 hs hg => ?_)
      · dsimp only
        unfold wL_act_320
        refine pk_le 14 w (fun z => absurd z (by omega)) (fun _ => br_f (by decide) ?_)
        exact tc_a337 h.1 h.2.1 hc hw rfl (fun _ => l0) (H _ _ _ _ _ _ _ _ _ _ _ _ _ h)
      · have hK := tc_end0K h hc l1
        dsimp only
        unfold wL_act_320
        refine pk_le 14 w (fun z => absurd z (by omega)) (fun _ => br_t rfl ?_)
        unfold wL_act_338
        exact br_f (by decide) (tc_a354 hK.2.1 hc hw (fun e => absurd e (by omega)) (H _ _ _ _ _ _ _ _ _ _ _ _ _ hK))
      · obtain ⟨hK, hcm⟩ := tc_endK h hc hn hs hg
        dsimp only
        unfold wL_act_320
        refine pk_le 14 w (fun z => absurd z (by omega)) (fun _ => br_f (nI_ne0 (by omega) (by omega)) ?_)
        exact tc_a337 hK.1 hK.2.1 hc hw (tc_dgc 16 hcm) (fun e => absurd e (by omega)) (H _ _ _ _ _ _ _ _ _ _ _ _ _ hK)
    · -- begin
      refine tc_view h.1 h.2.1 ?_
      refine tc_begin h.2.1 hc (fun l3 => ?_) (fun l3 => ?_)
      · dsimp only
        refine br_t (by decide) (br_t rfl (tc_level h.2.1 hc (br_t ?_ (H _ _ _ _ _ _ _ _ _ _ _ _ _ h))))
        rw [l3]
        rfl
      · dsimp only
        refine br_f (nI_nle (by omega) (by omega)) ?_
        obtain ⟨hK, _⟩ := tc_beginK h hc l3
        refine tc_giveUp hK.1 hK.2.1 hc (fun l0 => ?_) (fun n hn b1 b2 b3 b4 V' hb hV => ?_)
        · rw [tc_lv_s] at l0
          exact absurd l0 (by omega)
        · have en : n = lv c := by
            rw [tc_lv_s] at hn
            omega
          rw [en] at hn hV ⊢
          obtain ⟨hK2, hcm⟩ := tc_undoK hK hc hn hb hV
          rw [tc_lv_back] at hK2
          have hVV : ∀ y, y < 16 → V' y = V y := by
            intro y hy
            rw [hV y hy, show tc_ob o (c * 3 + lv c) (c * 3 + lv c) y = none from if_pos rfl]
            rfl
          have hbf : ∀ y d, d < 4 → tc_bf (tc_ob o (c * 3 + lv c)) d y (lv d) = tc_bf o d y (lv d) := by
            intro y d hd
            have := (h.2.1.1 d hd).2
            exact tc_bfc _ (fun l hl => if_neg (by
              by_cases q : d = c
              · rw [q] at hl ⊢; omega
              · omega))
          have hor : ∀ (a : Nat → Int32) d, d < 4 → tc_or (upd a (c * 3 + lv c) 0) d (lv d) = tc_or a d (lv d) := by
            intro a d hd
            have := (h.2.1.1 d hd).2
            exact tc_orc _ (fun l hl => pk_un (by
              by_cases q : d = c
              · rw [q] at hl ⊢; omega
              · omega))
          dsimp only
          refine tc_view hK2.1 hK2.2.1 (br_t ?_ ?_)
          · rw [tc_dgc (f := tc_cm (tc_ob o (c * 3 + lv c)) lv V') (f' := tc_cm o lv V) 16 (fun y hy => tc_cm_cong (hbf y) (hVV y hy))]
            exact tc_vcc 4 (fun d hd => ⟨hor a6 d hd, hor a7 d hd, fun y hy => tc_se_cong (hbf y) (hVV y hy)⟩)
          · unfold wL_act_255
            refine tc_begin hK2.2.1 hc (fun e => absurd e (by omega)) (fun l4 => ?_)
            obtain ⟨hK3, _⟩ := tc_beginK hK2 hc l4
            dsimp only
            exact ⟨by decide, H _ _ _ _ _ _ _ _ _ _ _ _ _ hK3⟩
    · -- write, add
      refine tc_sees h.1 h.2.1 hc hx ?_
      refine pk_le 6 w (fun w6 => ?_) (fun w6 => ?_)
      · refine tc_add h hc hx ?_ (fun hr b1 b2 b3 b4 b6 b7 b8 b9 b10 hK q2 q3 q4 => ?_)
        · exact tc_a122c h.1 h.2.1 hw rfl (H _ _ _ _ _ _ _ _ _ _ _ _ _ h)
        · dsimp only
          rw [tc_se_c hc hr]
          unfold wL_act_122
          refine pk_le 6 w (fun _ => ?_) (fun z => absurd z (by omega))
          refine tc_a140 hK.1 hK.2.1 hc hx q3 ?_ (H _ _ _ _ _ _ _ _ _ _ _ _ _ hK)
          rcases hz with ⟨e, l⟩ | ⟨e, l⟩
          · exact Or.inl ⟨e, tc_dgc 16 (q2 l)⟩
          · exact Or.inr ⟨e, q4 l⟩
      · refine tc_write h hc hx ?_ (fun hr b1 b2 b3 b4 b6 b7 b8 b9 b10 hK q2 q3 q4 => ?_)
        · exact tc_a122c h.1 h.2.1 hw rfl (H _ _ _ _ _ _ _ _ _ _ _ _ _ h)
        · dsimp only
          unfold wL_act_122
          refine pk_le 6 w (fun z => absurd z (by omega)) (fun _ => ?_)
          refine tc_a140 hK.1 hK.2.1 hc hx q3 ?_ (H _ _ _ _ _ _ _ _ _ _ _ _ _ hK)
          rcases hz with ⟨e, l⟩ | ⟨e, l⟩
          · exact Or.inl ⟨e, tc_dgc 16 (q2 l)⟩
          · exact Or.inr ⟨e, q4 l⟩
    · -- read
      refine tc_read h hc hx (fun e => ?_) (fun e b1 b2 b3 b4 b6 hK => ?_)
      · dsimp only
        refine br_t rfl ?_
        unfold wL_act_55
        refine br_f e ?_
        unfold wL_act_65
        exact br_t rfl (tc_digest h.1 h.2.1 (br_t rfl (H _ _ _ _ _ _ _ _ _ _ _ _ _ h)))
      · dsimp only
        refine br_f (by decide) ?_
        unfold wL_act_55
        refine br_t e ?_
        unfold wL_act_65
        exact br_t rfl (tc_digest hK.1 hK.2.1 (br_t rfl (H _ _ _ _ _ _ _ _ _ _ _ _ _ hK)))
  unfold wpL_act
  dsimp only
  exact tc_level h.2.1 hc (pk_eq (lv c) 0 (fun e => main 1 (Or.inr ⟨rfl, e⟩)) (fun e => main 0 (Or.inl ⟨rfl, by omega⟩)))
end
theorem tc_K0 : tc_K (fun _ => 0) (fun _ => 0) (fun _ _ => none) (fun _ => 0) (fun _ => 0) (fun _ => 0) (fun _ => 0) (fun _ => 0) (fun _ => 0) (fun _ => 0) (fun _ => 0) (fun _ => 0) (fun _ => 0) :=
  ⟨tc_cok0, ⟨fun _ _ => ⟨rfl, Nat.zero_le 3⟩, fun _ l _ hl => absurd hl (Nat.not_lt_zero l)⟩, fun _ _ _ _ _ _ _ hs => nomatch (show (none : Option Int32).isSome = true from hs)⟩
theorem i_vc (xs : Nat → Int32) (L : Nat) (hL : L ≤ 260) : wpL_law (fun r => r = 1) L xs := by
  refine ⟨10, 488, by omega, by omega, ?_⟩
  unfold wpX_init
  refine ⟨by omega, by omega, by omega, by omega, by omega, by omega, by omega, by omega, by omega, by omega, by omega, by omega, by omega, by omega, by omega, by omega, by omega, by omega, by omega, by omega, ?_⟩
  refine pk_loop (σ := St1) (fun n i s => wL_law_10 (fun r => r = 1) L xs (1 + 10) (10 + 488) n (nI i) s.1 s.2.1 s.2.2.1 s.2.2.2.1 s.2.2.2.2.1 s.2.2.2.2.2.1 s.2.2.2.2.2.2.1 s.2.2.2.2.2.2.2.1 s.2.2.2.2.2.2.2.2.1 s.2.2.2.2.2.2.2.2.2)
    (fun i s => ∃ V lv o, tc_K V lv o s.1 s.2.1 s.2.2.1 s.2.2.2.1 s.2.2.2.2.1 s.2.2.2.2.2.1 s.2.2.2.2.2.2.1 s.2.2.2.2.2.2.2.1 s.2.2.2.2.2.2.2.2.1 s.2.2.2.2.2.2.2.2.2) L 0
    ((fun _ => 0), (fun _ => 0), (fun _ => 0), (fun _ => 0), (fun _ => 0), (fun _ => 0), (fun _ => 0), (fun _ => 0), (fun _ => 0), (fun _ => 0)) (by omega) ⟨_, _, _, tc_K0⟩ ?_ ?_
  · rintro n s _
    exact pk_le L L (fun _ => rfl) (fun z => absurd z (by omega))
  · rintro n i ⟨b1, b2, b3, b4, b5, b6, b7, b8, b9, b10⟩ hi ⟨V, lv, o, hK⟩ hw
    dsimp only at hK hw ⊢
    obtain ⟨w, hw16, ew⟩ := pk_andE (xs (nI i).toNatClampNeg) (m := 15) 4 (by decide)
    refine pk_le L i (fun z => absurd z (by omega)) (fun _ => ⟨vp_in_nI hi (by omega), nm_r ew ⟨vp_in_nI hi (by omega), nm_e ?_⟩⟩)
    generalize xs (nI i).toNatClampNeg >>> ((4 : Int32) &&& 31) = q
    obtain ⟨c, hc4, ec⟩ := pk_andE q (m := 3) 2 (by decide)
    obtain ⟨x, hx4, ex⟩ := pk_andE (q >>> ((2 : Int32) &&& 31)) (m := 3) 2 (by decide)
    obtain ⟨y, hy16, ey⟩ := pk_andE (q >>> ((10 : Int32) &&& 31)) (m := 15) 4 (by decide)
    rw [ec, ex, ey]
    refine tc_act hK (by omega) (by omega) (by omega) (fun V' lv' o' d1 d2 d3 d4 d5 d6 d7 d8 d9 d10 hK' => ?_)
    dsimp only
    refine br_f (by decide) (tc_cores hK' (by omega) (br_f (by decide) (tc_cores hK' (by omega) (br_f (by decide) (nm_r (nI_1 i) ?_)))))
    exact hw (d1, d2, d3, d4, d5, d6, d7, d8, d9, d10) ⟨V', lv', o', hK'⟩
end
