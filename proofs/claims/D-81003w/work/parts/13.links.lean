set_option maxRecDepth 100000
theorem in_xX4 : ∀ w ∈ u_ws RX4 xTX4 1, w ∈ lw_all := fun w h => by
  have e : w = Jvm.Cond.lays "DeedKernel$Refused" "DeedKernel$Refused" "why" "I" := List.mem_singleton.mp h
  rw [e]; exact q345
theorem nmxX4 : ∀ a, a < 1 → ∀ b, b < 1 → a ≠ b → (xTX4 a).2.1 ≠ (xTX4 b).2.1 := by omega
theorem tyxX4 : ∀ k, k < 1 → parseFieldDescriptor (xTX4 k).2.2.1 = some ((fun _ => .int : Nat → FieldType) k) := by decide +kernel
theorem ar_20 : xAr 20 (.byte) 0 0 := ⟨by decide, by decide, rfl, fun _ => rfl, fun _ => rfl⟩
theorem ar_21 : xAr 21 (.int) 0 0 := ⟨by decide, by decide, rfl, fun _ => rfl, fun _ => rfl⟩
theorem ar_22 : xAr 22 (.boolean) 0 0 := ⟨by decide, by decide, rfl, fun _ => rfl, fun _ => rfl⟩
theorem ar_23 : xAr 23 (.object "DeedKernel$Inode") 3 6 := ⟨by decide, by decide, rfl, fun _ => rfl, fun _ => rfl⟩
theorem ar_24 : xAr 24 (.object "DeedKernel$Opening") 3 7 := ⟨by decide, by decide, rfl, fun _ => rfl, fun _ => rfl⟩
theorem ar_25 : xAr 25 (.object "DeedKernel$Pipe") 3 8 := ⟨by decide, by decide, rfl, fun _ => rfl, fun _ => rfl⟩
theorem ar_26 : xAr 26 (.object "DeedKernel$Process") 3 9 := ⟨by decide, by decide, rfl, fun _ => rfl, fun _ => rfl⟩
theorem ar_27 : xAr 27 (.byte) 0 0 := ⟨by decide, by decide, rfl, fun _ => rfl, fun _ => rfl⟩
theorem ar_28 : xAr 28 (.byte) 0 0 := ⟨by decide, by decide, rfl, fun _ => rfl, fun _ => rfl⟩
theorem ar_29 : xAr 29 (.object "DeedKernel$Opening") 2 7 := ⟨by decide, by decide, rfl, fun _ => rfl, fun _ => rfl⟩
theorem ar_30 : xAr 30 (.byte) 0 0 := ⟨by decide, by decide, rfl, fun _ => rfl, fun _ => rfl⟩
theorem ar_31 : xAr 31 (.int) 0 0 := ⟨by decide, by decide, rfl, fun _ => rfl, fun _ => rfl⟩
theorem ar_32 : xAr 32 (.long) 1 0 := ⟨by decide, by decide, rfl, fun _ => rfl, fun _ => rfl⟩
theorem ar_33 : xAr 33 (.int) 0 0 := ⟨by decide, by decide, rfl, fun _ => rfl, fun _ => rfl⟩
theorem ar_34 : xAr 34 (.int) 0 0 := ⟨by decide, by decide, rfl, fun _ => rfl, fun _ => rfl⟩
theorem ar_35 : xAr 35 (.byte) 0 0 := ⟨by decide, by decide, rfl, fun _ => rfl, fun _ => rfl⟩
theorem ar_36 : xAr 36 (.byte) 0 0 := ⟨by decide, by decide, rfl, fun _ => rfl, fun _ => rfl⟩
theorem ar_37 : xAr 37 (.byte) 0 0 := ⟨by decide, by decide, rfl, fun _ => rfl, fun _ => rfl⟩
theorem ar_38 : xAr 38 (.int) 0 0 := ⟨by decide, by decide, rfl, fun _ => rfl, fun _ => rfl⟩
theorem ar_39 : xAr 39 (.int) 0 0 := ⟨by decide, by decide, rfl, fun _ => rfl, fun _ => rfl⟩
theorem ar_40 : xAr 40 (.int) 0 0 := ⟨by decide, by decide, rfl, fun _ => rfl, fun _ => rfl⟩
theorem ar_41 : xAr 41 (.int) 0 0 := ⟨by decide, by decide, rfl, fun _ => rfl, fun _ => rfl⟩
theorem ar_42 : xAr 42 (.int) 0 0 := ⟨by decide, by decide, rfl, fun _ => rfl, fun _ => rfl⟩
theorem ar_43 : xAr 43 (.byte) 0 0 := ⟨by decide, by decide, rfl, fun _ => rfl, fun _ => rfl⟩
theorem ar_44 : xAr 44 (.byte) 0 0 := ⟨by decide, by decide, rfl, fun _ => rfl, fun _ => rfl⟩
theorem ar_45 : xAr 45 (.byte) 0 0 := ⟨by decide, by decide, rfl, fun _ => rfl, fun _ => rfl⟩
theorem ar_46 : xAr 46 (.object "DeedKernel$Opening") 2 7 := ⟨by decide, by decide, rfl, fun _ => rfl, fun _ => rfl⟩
theorem ar_47 : xAr 47 (.object "DeedKernel$Opening") 2 7 := ⟨by decide, by decide, rfl, fun _ => rfl, fun _ => rfl⟩
theorem ar_48 : xAr 48 (.int) 0 0 := ⟨by decide, by decide, rfl, fun _ => rfl, fun _ => rfl⟩
theorem ar_49 : xAr 49 (.long) 1 0 := ⟨by decide, by decide, rfl, fun _ => rfl, fun _ => rfl⟩
theorem ar_50 : xAr 50 (.int) 0 0 := ⟨by decide, by decide, rfl, fun _ => rfl, fun _ => rfl⟩
theorem ar_60 : xAr 60 (.byte) 0 0 := ⟨by decide, by decide, rfl, fun _ => rfl, fun _ => rfl⟩
theorem ar_61 : xAr 61 (.int) 0 0 := ⟨by decide, by decide, rfl, fun _ => rfl, fun _ => rfl⟩
theorem ar_62 : xAr 62 (.long) 1 0 := ⟨by decide, by decide, rfl, fun _ => rfl, fun _ => rfl⟩
theorem ar_63 : xAr 63 (.byte) 0 0 := ⟨by decide, by decide, rfl, fun _ => rfl, fun _ => rfl⟩
theorem ar_64 : xAr 64 (.byte) 0 0 := ⟨by decide, by decide, rfl, fun _ => rfl, fun _ => rfl⟩
theorem ar_65 : xAr 65 (.int) 0 0 := ⟨by decide, by decide, rfl, fun _ => rfl, fun _ => rfl⟩
theorem ar_66 : xAr 66 (.int) 0 0 := ⟨by decide, by decide, rfl, fun _ => rfl, fun _ => rfl⟩
theorem ar_67 : xAr 67 (.int) 0 0 := ⟨by decide, by decide, rfl, fun _ => rfl, fun _ => rfl⟩
theorem ar_68 : xAr 68 (.int) 0 0 := ⟨by decide, by decide, rfl, fun _ => rfl, fun _ => rfl⟩
theorem ar_69 : xAr 69 (.int) 0 0 := ⟨by decide, by decide, rfl, fun _ => rfl, fun _ => rfl⟩
theorem ar_70 : xAr 70 (.int) 0 0 := ⟨by decide, by decide, rfl, fun _ => rfl, fun _ => rfl⟩
theorem ar_71 : xAr 71 (.array .int) 3 70 := ⟨by decide, by decide, rfl, fun _ => rfl, fun _ => rfl⟩
theorem ar_72 : xAr 72 (.int) 0 0 := ⟨by decide, by decide, rfl, fun _ => rfl, fun _ => rfl⟩
theorem ar_73 : xAr 73 (.array .byte) 2 60 := ⟨by decide, by decide, rfl, fun _ => rfl, fun _ => rfl⟩
theorem ar_74 : xAr 74 (.int) 0 0 := ⟨by decide, by decide, rfl, fun _ => rfl, fun _ => rfl⟩
theorem ar_75 : xAr 75 (.array .int) 3 74 := ⟨by decide, by decide, rfl, fun _ => rfl, fun _ => rfl⟩
theorem ar_76 : xAr 76 (.long) 1 0 := ⟨by decide, by decide, rfl, fun _ => rfl, fun _ => rfl⟩
theorem ar_77 : xAr 77 (.array .long) 3 76 := ⟨by decide, by decide, rfl, fun _ => rfl, fun _ => rfl⟩
theorem ar_78 : xAr 78 (.long) 1 0 := ⟨by decide, by decide, rfl, fun _ => rfl, fun _ => rfl⟩
theorem ar_79 : xAr 79 (.array .long) 3 78 := ⟨by decide, by decide, rfl, fun _ => rfl, fun _ => rfl⟩
theorem ar_80 : xAr 80 (.int) 0 0 := ⟨by decide, by decide, rfl, fun _ => rfl, fun _ => rfl⟩
theorem ar_81 : xAr 81 (.int) 0 0 := ⟨by decide, by decide, rfl, fun _ => rfl, fun _ => rfl⟩
theorem ar_82 : xAr 82 (.int) 0 0 := ⟨by decide, by decide, rfl, fun _ => rfl, fun _ => rfl⟩
theorem ar_83 : xAr 83 (.int) 0 0 := ⟨by decide, by decide, rfl, fun _ => rfl, fun _ => rfl⟩
theorem ar_84 : xAr 84 (.array .int) 3 83 := ⟨by decide, by decide, rfl, fun _ => rfl, fun _ => rfl⟩
theorem ar_85 : xAr 85 (.int) 0 0 := ⟨by decide, by decide, rfl, fun _ => rfl, fun _ => rfl⟩
theorem ar_86 : xAr 86 (.int) 0 0 := ⟨by decide, by decide, rfl, fun _ => rfl, fun _ => rfl⟩
theorem ar_87 : xAr 87 (.boolean) 0 0 := ⟨by decide, by decide, rfl, fun _ => rfl, fun _ => rfl⟩
theorem ar_88 : xAr 88 (.int) 0 0 := ⟨by decide, by decide, rfl, fun _ => rfl, fun _ => rfl⟩
theorem ar_89 : xAr 89 (.int) 0 0 := ⟨by decide, by decide, rfl, fun _ => rfl, fun _ => rfl⟩
theorem ar_90 : xAr 90 (.int) 0 0 := ⟨by decide, by decide, rfl, fun _ => rfl, fun _ => rfl⟩
theorem ar_91 : xAr 91 (.int) 0 0 := ⟨by decide, by decide, rfl, fun _ => rfl, fun _ => rfl⟩
theorem ar_92 : xAr 92 (.int) 0 0 := ⟨by decide, by decide, rfl, fun _ => rfl, fun _ => rfl⟩
theorem ar_93 : xAr 93 (.byte) 0 0 := ⟨by decide, by decide, rfl, fun _ => rfl, fun _ => rfl⟩
theorem ar_94 : xAr 94 (.array .byte) 3 93 := ⟨by decide, by decide, rfl, fun _ => rfl, fun _ => rfl⟩
theorem ar_95 : xAr 95 (.int) 0 0 := ⟨by decide, by decide, rfl, fun _ => rfl, fun _ => rfl⟩
theorem ar_96 : xAr 96 (.object "DeedKernelModel$Group") 3 11 := ⟨by decide, by decide, rfl, fun _ => rfl, fun _ => rfl⟩
theorem ar_97 : xAr 97 (.int) 0 0 := ⟨by decide, by decide, rfl, fun _ => rfl, fun _ => rfl⟩
theorem ar_98 : xAr 98 (.int) 0 0 := ⟨by decide, by decide, rfl, fun _ => rfl, fun _ => rfl⟩
theorem ar_99 : xAr 99 (.byte) 0 0 := ⟨by decide, by decide, rfl, fun _ => rfl, fun _ => rfl⟩
theorem ar_100 : xAr 100 (.int) 0 0 := ⟨by decide, by decide, rfl, fun _ => rfl, fun _ => rfl⟩
theorem ar_101 : xAr 101 (.byte) 0 0 := ⟨by decide, by decide, rfl, fun _ => rfl, fun _ => rfl⟩
theorem ar_102 : xAr 102 (.int) 0 0 := ⟨by decide, by decide, rfl, fun _ => rfl, fun _ => rfl⟩
theorem ar_103 : xAr 103 (.int) 0 0 := ⟨by decide, by decide, rfl, fun _ => rfl, fun _ => rfl⟩
theorem ar_104 : xAr 104 (.int) 0 0 := ⟨by decide, by decide, rfl, fun _ => rfl, fun _ => rfl⟩
theorem ar_105 : xAr 105 (.int) 0 0 := ⟨by decide, by decide, rfl, fun _ => rfl, fun _ => rfl⟩
theorem ar_106 : xAr 106 (.int) 0 0 := ⟨by decide, by decide, rfl, fun _ => rfl, fun _ => rfl⟩
theorem ar_107 : xAr 107 (.int) 0 0 := ⟨by decide, by decide, rfl, fun _ => rfl, fun _ => rfl⟩
theorem ar_108 : xAr 108 (.array .int) 3 107 := ⟨by decide, by decide, rfl, fun _ => rfl, fun _ => rfl⟩
theorem ar_109 : xAr 109 (.int) 0 0 := ⟨by decide, by decide, rfl, fun _ => rfl, fun _ => rfl⟩
theorem ar_110 : xAr 110 (.array .byte) 2 60 := ⟨by decide, by decide, rfl, fun _ => rfl, fun _ => rfl⟩
theorem ar_111 : xAr 111 (.boolean) 0 0 := ⟨by decide, by decide, rfl, fun _ => rfl, fun _ => rfl⟩
theorem ar_112 : xAr 112 (.boolean) 0 0 := ⟨by decide, by decide, rfl, fun _ => rfl, fun _ => rfl⟩
theorem ar_113 : xAr 113 (.long) 1 0 := ⟨by decide, by decide, rfl, fun _ => rfl, fun _ => rfl⟩
theorem ar_114 : xAr 114 (.long) 1 0 := ⟨by decide, by decide, rfl, fun _ => rfl, fun _ => rfl⟩
theorem ar_115 : xAr 115 (.int) 0 0 := ⟨by decide, by decide, rfl, fun _ => rfl, fun _ => rfl⟩
theorem ar_116 : xAr 116 (.array .byte) 2 60 := ⟨by decide, by decide, rfl, fun _ => rfl, fun _ => rfl⟩
theorem ar_117 : xAr 117 (.long) 1 0 := ⟨by decide, by decide, rfl, fun _ => rfl, fun _ => rfl⟩
theorem ar_118 : xAr 118 (.long) 1 0 := ⟨by decide, by decide, rfl, fun _ => rfl, fun _ => rfl⟩
theorem ar_119 : xAr 119 (.int) 0 0 := ⟨by decide, by decide, rfl, fun _ => rfl, fun _ => rfl⟩
theorem ar_120 : xAr 120 (.array .byte) 2 60 := ⟨by decide, by decide, rfl, fun _ => rfl, fun _ => rfl⟩
theorem ar_121 : xAr 121 (.int) 0 0 := ⟨by decide, by decide, rfl, fun _ => rfl, fun _ => rfl⟩
theorem ar_122 : xAr 122 (.boolean) 0 0 := ⟨by decide, by decide, rfl, fun _ => rfl, fun _ => rfl⟩
theorem ar_123 : xAr 123 (.int) 0 0 := ⟨by decide, by decide, rfl, fun _ => rfl, fun _ => rfl⟩
theorem ar_124 : xAr 124 (.int) 0 0 := ⟨by decide, by decide, rfl, fun _ => rfl, fun _ => rfl⟩
theorem ar_125 : xAr 125 (.boolean) 0 0 := ⟨by decide, by decide, rfl, fun _ => rfl, fun _ => rfl⟩
theorem ar_126 : xAr 126 (.int) 0 0 := ⟨by decide, by decide, rfl, fun _ => rfl, fun _ => rfl⟩
theorem ar_127 : xAr 127 (.boolean) 0 0 := ⟨by decide, by decide, rfl, fun _ => rfl, fun _ => rfl⟩
theorem ar_128 : xAr 128 (.int) 0 0 := ⟨by decide, by decide, rfl, fun _ => rfl, fun _ => rfl⟩
theorem ar_129 : xAr 129 (.boolean) 0 0 := ⟨by decide, by decide, rfl, fun _ => rfl, fun _ => rfl⟩
theorem ar_130 : xAr 130 (.byte) 0 0 := ⟨by decide, by decide, rfl, fun _ => rfl, fun _ => rfl⟩
theorem ar_131 : xAr 131 (.array .byte) 3 130 := ⟨by decide, by decide, rfl, fun _ => rfl, fun _ => rfl⟩
theorem ar_132 : xAr 132 (.int) 0 0 := ⟨by decide, by decide, rfl, fun _ => rfl, fun _ => rfl⟩
theorem ar_133 : xAr 133 (.boolean) 0 0 := ⟨by decide, by decide, rfl, fun _ => rfl, fun _ => rfl⟩
theorem ar_134 : xAr 134 (.boolean) 0 0 := ⟨by decide, by decide, rfl, fun _ => rfl, fun _ => rfl⟩
theorem ar_135 : xAr 135 (.int) 0 0 := ⟨by decide, by decide, rfl, fun _ => rfl, fun _ => rfl⟩
theorem ar_136 : xAr 136 (.array .int) 3 135 := ⟨by decide, by decide, rfl, fun _ => rfl, fun _ => rfl⟩
theorem ar_137 : xAr 137 (.int) 0 0 := ⟨by decide, by decide, rfl, fun _ => rfl, fun _ => rfl⟩
theorem ar_138 : xAr 138 (.boolean) 0 0 := ⟨by decide, by decide, rfl, fun _ => rfl, fun _ => rfl⟩
theorem ar_139 : xAr 139 (.int) 0 0 := ⟨by decide, by decide, rfl, fun _ => rfl, fun _ => rfl⟩
theorem ar_140 : xAr 140 (.int) 0 0 := ⟨by decide, by decide, rfl, fun _ => rfl, fun _ => rfl⟩
theorem ar_141 : xAr 141 (.boolean) 0 0 := ⟨by decide, by decide, rfl, fun _ => rfl, fun _ => rfl⟩
theorem ar_142 : xAr 142 (.int) 0 0 := ⟨by decide, by decide, rfl, fun _ => rfl, fun _ => rfl⟩
theorem ar_143 : xAr 143 (.int) 0 0 := ⟨by decide, by decide, rfl, fun _ => rfl, fun _ => rfl⟩
theorem ar_144 : xAr 144 (.int) 0 0 := ⟨by decide, by decide, rfl, fun _ => rfl, fun _ => rfl⟩
theorem ar_145 : xAr 145 (.int) 0 0 := ⟨by decide, by decide, rfl, fun _ => rfl, fun _ => rfl⟩
theorem ar_146 : xAr 146 (.int) 0 0 := ⟨by decide, by decide, rfl, fun _ => rfl, fun _ => rfl⟩
theorem ar_147 : xAr 147 (.int) 0 0 := ⟨by decide, by decide, rfl, fun _ => rfl, fun _ => rfl⟩
theorem ar_148 : xAr 148 (.int) 0 0 := ⟨by decide, by decide, rfl, fun _ => rfl, fun _ => rfl⟩
theorem ar_149 : xAr 149 (.int) 0 0 := ⟨by decide, by decide, rfl, fun _ => rfl, fun _ => rfl⟩
theorem ar_150 : xAr 150 (.int) 0 0 := ⟨by decide, by decide, rfl, fun _ => rfl, fun _ => rfl⟩
theorem fl_X1_19 : xFl RX1 19 0 1 (.object "DeedKernel$Head") true 3 1 := ⟨_, _, _, tyX1, rfl, in_X1, tyX1_ok, nmX1, by decide, by decide, Or.inl q736, by decide +kernel, rfl, rfl, rfl, rfl⟩
theorem fl_X1_27 : xFl RX1 27 0 6 (.array (.object "DeedKernel$Opening")) true 3 24 := ⟨_, _, _, tyX1, rfl, in_X1, tyX1_ok, nmX1, by decide, by decide, Or.inl q742, by decide +kernel, rfl, rfl, rfl, rfl⟩
theorem fl_X1_33 : xFl RX1 33 0 7 (.array (.object "DeedKernel$Pipe")) true 3 25 := ⟨_, _, _, tyX1, rfl, in_X1, tyX1_ok, nmX1, by decide, by decide, Or.inl q743, by decide +kernel, rfl, rfl, rfl, rfl⟩
theorem fl_X1_39 : xFl RX1 39 0 8 (.array (.object "DeedKernel$Process")) true 3 26 := ⟨_, _, _, tyX1, rfl, in_X1, tyX1_ok, nmX1, by decide, by decide, Or.inl q744, by decide +kernel, rfl, rfl, rfl, rfl⟩
theorem fl_X1_46 : xFl RX1 46 0 9 (.object "DeedKernel$Things") true 3 2 := ⟨_, _, _, tyX1, rfl, in_X1, tyX1_ok, nmX1, by decide, by decide, Or.inl q745, by decide +kernel, rfl, rfl, rfl, rfl⟩
theorem fl_X1_53 : xFl RX1 53 0 10 (.object "DeedKernel$Refused") true 3 3 := ⟨_, _, _, tyX1, rfl, in_X1, tyX1_ok, nmX1, by decide, by decide, Or.inl q746, by decide +kernel, rfl, rfl, rfl, rfl⟩
theorem fl_X1_57 : xFl RX1 57 0 11 (.array .byte) true 3 27 := ⟨_, _, _, tyX1, rfl, in_X1, tyX1_ok, nmX1, by decide, by decide, Or.inl q749, by decide +kernel, rfl, rfl, rfl, rfl⟩
theorem fl_X1_61 : xFl RX1 61 0 13 (.array .byte) true 3 28 := ⟨_, _, _, tyX1, rfl, in_X1, tyX1_ok, nmX1, by decide, by decide, Or.inl q751, by decide +kernel, rfl, rfl, rfl, rfl⟩
theorem fl_X1_64 : xFl RX1 64 0 20 (.array (.object "DeedKernel$Opening")) true 3 29 := ⟨_, _, _, tyX1, rfl, in_X1, tyX1_ok, nmX1, by decide, by decide, Or.inl q759, by decide +kernel, rfl, rfl, rfl, rfl⟩
theorem fl_X1_67 : xFl RX1 67 0 22 (.int) false 0 0 := ⟨_, _, _, tyX1, rfl, in_X1, tyX1_ok, nmX1, by decide, by decide, Or.inl q762, by decide +kernel, rfl, rfl, rfl, rfl⟩
theorem fl_X1_76 : xFl RX1 76 0 23 (.object "DeedKernel$Path") true 3 4 := ⟨_, _, _, tyX1, rfl, in_X1, tyX1_ok, nmX1, by decide, by decide, Or.inl q763, by decide +kernel, rfl, rfl, rfl, rfl⟩
theorem fl_X1_80 : xFl RX1 80 0 24 (.object "DeedKernel$Path") true 3 4 := ⟨_, _, _, tyX1, rfl, in_X1, tyX1_ok, nmX1, by decide, by decide, Or.inl q764, by decide +kernel, rfl, rfl, rfl, rfl⟩
theorem fl_X1_92 : xFl RX1 92 0 0 (.object "DeedKernel$Disk") true 3 5 := ⟨_, _, _, tyX1, rfl, in_X1, tyX1_ok, nmX1, by decide, by decide, Or.inl q735, by decide +kernel, rfl, rfl, rfl, rfl⟩
theorem fl_X1_96 : xFl RX1 96 5 0 (.int) true 0 0 := ⟨_, _, _, tyX6, rfl, in_X6, tyX6_ok, nmX6, by decide, by decide, Or.inl q391, by decide +kernel, rfl, rfl, rfl, rfl⟩
theorem fl_X1_99 : xFl RX1 99 0 2 (.array .byte) true 3 20 := ⟨_, _, _, tyX1, rfl, in_X1, tyX1_ok, nmX1, by decide, by decide, Or.inl q737, by decide +kernel, rfl, rfl, rfl, rfl⟩
theorem fl_X1_102 : xFl RX1 102 0 3 (.array .int) true 3 21 := ⟨_, _, _, tyX1, rfl, in_X1, tyX1_ok, nmX1, by decide, by decide, Or.inl q738, by decide +kernel, rfl, rfl, rfl, rfl⟩
theorem fl_X1_106 : xFl RX1 106 0 4 (.array .boolean) true 3 22 := ⟨_, _, _, tyX1, rfl, in_X1, tyX1_ok, nmX1, by decide, by decide, Or.inl q739, by decide +kernel, rfl, rfl, rfl, rfl⟩
theorem fl_X1_110 : xFl RX1 110 5 1 (.int) true 0 0 := ⟨_, _, _, tyX6, rfl, in_X6, tyX6_ok, nmX6, by decide, by decide, Or.inl q393, by decide +kernel, rfl, rfl, rfl, rfl⟩
theorem fl_X1_115 : xFl RX1 115 0 5 (.array (.object "DeedKernel$Inode")) true 3 23 := ⟨_, _, _, tyX1, rfl, in_X1, tyX1_ok, nmX1, by decide, by decide, Or.inl q740, by decide +kernel, rfl, rfl, rfl, rfl⟩
theorem fl_X1_127 : xFl RX1 127 5 3 (.array .byte) true 3 35 := ⟨_, _, _, tyX6, rfl, in_X6, tyX6_ok, nmX6, by decide, by decide, Or.inl q397, by decide +kernel, rfl, rfl, rfl, rfl⟩
theorem fl_X1_136 : xFl RX1 136 1 0 (.array .byte) true 3 30 := ⟨_, _, _, tyX2, rfl, in_X2, tyX2_ok, nmX2, by decide, by decide, Or.inl q235, by decide +kernel, rfl, rfl, rfl, rfl⟩
theorem fl_X1_154 : xFl RX1 154 5 4 (.int) false 0 0 := ⟨_, _, _, tyX6, rfl, in_X6, tyX6_ok, nmX6, by decide, by decide, Or.inl q399, by decide +kernel, rfl, rfl, rfl, rfl⟩
theorem fl_X1_157 : xFl RX1 157 5 5 (.int) false 0 0 := ⟨_, _, _, tyX6, rfl, in_X6, tyX6_ok, nmX6, by decide, by decide, Or.inl q401, by decide +kernel, rfl, rfl, rfl, rfl⟩
theorem fl_X1_160 : xFl RX1 160 5 7 (.boolean) false 0 0 := ⟨_, _, _, tyX6, rfl, in_X6, tyX6_ok, nmX6, by decide, by decide, Or.inl q405, by decide +kernel, rfl, rfl, rfl, rfl⟩
theorem fl_X1_164 : xFl RX1 164 5 8 (.int) false 0 0 := ⟨_, _, _, tyX6, rfl, in_X6, tyX6_ok, nmX6, by decide, by decide, Or.inl q406, by decide +kernel, rfl, rfl, rfl, rfl⟩
theorem fl_X1_167 : xFl RX1 167 0 15 (.int) false 0 0 := ⟨_, _, _, tyX1, rfl, in_X1, tyX1_ok, nmX1, by decide, by decide, Or.inl q753, by decide +kernel, rfl, rfl, rfl, rfl⟩
theorem fl_X1_170 : xFl RX1 170 0 16 (.int) false 0 0 := ⟨_, _, _, tyX1, rfl, in_X1, tyX1_ok, nmX1, by decide, by decide, Or.inl q754, by decide +kernel, rfl, rfl, rfl, rfl⟩
theorem fl_X1_173 : xFl RX1 173 0 17 (.int) false 0 0 := ⟨_, _, _, tyX1, rfl, in_X1, tyX1_ok, nmX1, by decide, by decide, Or.inl q755, by decide +kernel, rfl, rfl, rfl, rfl⟩
theorem fl_X1_176 : xFl RX1 176 0 18 (.int) false 0 0 := ⟨_, _, _, tyX1, rfl, in_X1, tyX1_ok, nmX1, by decide, by decide, Or.inl q756, by decide +kernel, rfl, rfl, rfl, rfl⟩
theorem fl_X1_182 : xFl RX1 182 6 1 (.int) false 0 0 := ⟨_, _, _, tyX7, rfl, in_X7, tyX7_ok, nmX7, by decide, by decide, Or.inl q437, by decide +kernel, rfl, rfl, rfl, rfl⟩
theorem fl_X1_185 : xFl RX1 185 6 2 (.int) false 0 0 := ⟨_, _, _, tyX7, rfl, in_X7, tyX7_ok, nmX7, by decide, by decide, Or.inl q440, by decide +kernel, rfl, rfl, rfl, rfl⟩
theorem fl_X1_188 : xFl RX1 188 6 13 (.int) false 0 0 := ⟨_, _, _, tyX7, rfl, in_X7, tyX7_ok, nmX7, by decide, by decide, Or.inl q463, by decide +kernel, rfl, rfl, rfl, rfl⟩
theorem fl_X1_191 : xFl RX1 191 6 14 (.int) false 0 0 := ⟨_, _, _, tyX7, rfl, in_X7, tyX7_ok, nmX7, by decide, by decide, Or.inl q465, by decide +kernel, rfl, rfl, rfl, rfl⟩
theorem fl_X1_194 : xFl RX1 194 9 5 (.object "DeedKernel$Inode") false 2 6 := ⟨_, _, _, tyX10, rfl, in_X10, tyX10_ok, nmX10, by decide, by decide, Or.inl q620, by decide +kernel, rfl, rfl, rfl, rfl⟩
theorem fl_X1_202 : xFl RX1 202 8 1 (.int) false 0 0 := ⟨_, _, _, tyX9, rfl, in_X9, tyX9_ok, nmX9, by decide, by decide, Or.inl q591, by decide +kernel, rfl, rfl, rfl, rfl⟩
theorem fl_X1_205 : xFl RX1 205 2 0 (.int) false 0 0 := ⟨_, _, _, tyX3, rfl, in_X3, tyX3_ok, nmX3, by decide, by decide, Or.inl q257, by decide +kernel, rfl, rfl, rfl, rfl⟩
theorem fl_X1_208 : xFl RX1 208 9 1 (.int) false 0 0 := ⟨_, _, _, tyX10, rfl, in_X10, tyX10_ok, nmX10, by decide, by decide, Or.inl q612, by decide +kernel, rfl, rfl, rfl, rfl⟩
theorem fl_X1_219 : xFl RX1 219 0 12 (.int) false 0 0 := ⟨_, _, _, tyX1, rfl, in_X1, tyX1_ok, nmX1, by decide, by decide, Or.inl q750, by decide +kernel, rfl, rfl, rfl, rfl⟩
theorem fl_X1_240 : xFl RX1 240 7 1 (.int) false 0 0 := ⟨_, _, _, tyX8, rfl, in_X8, tyX8_ok, nmX8, by decide, by decide, Or.inl q559, by decide +kernel, rfl, rfl, rfl, rfl⟩
theorem fl_X1_246 : xFl RX1 246 9 4 (.array (.object "DeedKernel$Opening")) true 3 46 := ⟨_, _, _, tyX10, rfl, in_X10, tyX10_ok, nmX10, by decide, by decide, Or.inl q618, by decide +kernel, rfl, rfl, rfl, rfl⟩
theorem fl_X1_249 : xFl RX1 249 7 2 (.int) false 0 0 := ⟨_, _, _, tyX8, rfl, in_X8, tyX8_ok, nmX8, by decide, by decide, Or.inl q560, by decide +kernel, rfl, rfl, rfl, rfl⟩
theorem fl_X1_252 : xFl RX1 252 9 14 (.object "DeedKernel$Inode") false 2 6 := ⟨_, _, _, tyX10, rfl, in_X10, tyX10_ok, nmX10, by decide, by decide, Or.inl q637, by decide +kernel, rfl, rfl, rfl, rfl⟩
theorem fl_X1_255 : xFl RX1 255 7 0 (.object "DeedKernel$Inode") false 2 6 := ⟨_, _, _, tyX8, rfl, in_X8, tyX8_ok, nmX8, by decide, by decide, Or.inl q558, by decide +kernel, rfl, rfl, rfl, rfl⟩
theorem fl_X1_258 : xFl RX1 258 6 10 (.int) false 0 0 := ⟨_, _, _, tyX7, rfl, in_X7, tyX7_ok, nmX7, by decide, by decide, Or.inl q456, by decide +kernel, rfl, rfl, rfl, rfl⟩
theorem fl_X1_261 : xFl RX1 261 6 11 (.int) false 0 0 := ⟨_, _, _, tyX7, rfl, in_X7, tyX7_ok, nmX7, by decide, by decide, Or.inl q459, by decide +kernel, rfl, rfl, rfl, rfl⟩
theorem fl_X1_279 : xFl RX1 279 6 5 (.array .byte) true 3 36 := ⟨_, _, _, tyX7, rfl, in_X7, tyX7_ok, nmX7, by decide, by decide, Or.inl q448, by decide +kernel, rfl, rfl, rfl, rfl⟩
theorem fl_X1_282 : xFl RX1 282 6 9 (.array .byte) true 3 37 := ⟨_, _, _, tyX7, rfl, in_X7, tyX7_ok, nmX7, by decide, by decide, Or.inl q454, by decide +kernel, rfl, rfl, rfl, rfl⟩
theorem fl_X1_285 : xFl RX1 285 6 3 (.int) false 0 0 := ⟨_, _, _, tyX7, rfl, in_X7, tyX7_ok, nmX7, by decide, by decide, Or.inl q443, by decide +kernel, rfl, rfl, rfl, rfl⟩
theorem fl_X1_288 : xFl RX1 288 6 7 (.int) false 0 0 := ⟨_, _, _, tyX7, rfl, in_X7, tyX7_ok, nmX7, by decide, by decide, Or.inl q451, by decide +kernel, rfl, rfl, rfl, rfl⟩
theorem fl_X1_291 : xFl RX1 291 0 21 (.int) false 0 0 := ⟨_, _, _, tyX1, rfl, in_X1, tyX1_ok, nmX1, by decide, by decide, Or.inl q761, by decide +kernel, rfl, rfl, rfl, rfl⟩
theorem fl_X1_294 : xFl RX1 294 6 12 (.int) false 0 0 := ⟨_, _, _, tyX7, rfl, in_X7, tyX7_ok, nmX7, by decide, by decide, Or.inl q461, by decide +kernel, rfl, rfl, rfl, rfl⟩
theorem fl_X1_297 : xFl RX1 297 6 6 (.int) false 0 0 := ⟨_, _, _, tyX7, rfl, in_X7, tyX7_ok, nmX7, by decide, by decide, Or.inl q450, by decide +kernel, rfl, rfl, rfl, rfl⟩
theorem fl_X1_300 : xFl RX1 300 6 4 (.int) false 0 0 := ⟨_, _, _, tyX7, rfl, in_X7, tyX7_ok, nmX7, by decide, by decide, Or.inl q446, by decide +kernel, rfl, rfl, rfl, rfl⟩
theorem fl_X1_303 : xFl RX1 303 6 8 (.int) false 0 0 := ⟨_, _, _, tyX7, rfl, in_X7, tyX7_ok, nmX7, by decide, by decide, Or.inl q452, by decide +kernel, rfl, rfl, rfl, rfl⟩
theorem fl_X1_310 : xFl RX1 310 7 6 (.int) false 0 0 := ⟨_, _, _, tyX8, rfl, in_X8, tyX8_ok, nmX8, by decide, by decide, Or.inl q564, by decide +kernel, rfl, rfl, rfl, rfl⟩
theorem fl_X1_313 : xFl RX1 313 7 7 (.int) false 0 0 := ⟨_, _, _, tyX8, rfl, in_X8, tyX8_ok, nmX8, by decide, by decide, Or.inl q565, by decide +kernel, rfl, rfl, rfl, rfl⟩
theorem fl_X1_319 : xFl RX1 319 9 6 (.int) false 0 0 := ⟨_, _, _, tyX10, rfl, in_X10, tyX10_ok, nmX10, by decide, by decide, Or.inl q623, by decide +kernel, rfl, rfl, rfl, rfl⟩
theorem fl_X1_322 : xFl RX1 322 9 7 (.int) false 0 0 := ⟨_, _, _, tyX10, rfl, in_X10, tyX10_ok, nmX10, by decide, by decide, Or.inl q624, by decide +kernel, rfl, rfl, rfl, rfl⟩
theorem fl_X1_328 : xFl RX1 328 2 6 (.array .int) false 2 31 := ⟨_, _, _, tyX3, rfl, in_X3, tyX3_ok, nmX3, by decide, by decide, Or.inl q267, by decide +kernel, rfl, rfl, rfl, rfl⟩
theorem fl_X1_331 : xFl RX1 331 2 1 (.array .int) false 2 31 := ⟨_, _, _, tyX3, rfl, in_X3, tyX3_ok, nmX3, by decide, by decide, Or.inl q259, by decide +kernel, rfl, rfl, rfl, rfl⟩
theorem fl_X1_333 : xFl RX1 333 2 2 (.array .int) false 2 31 := ⟨_, _, _, tyX3, rfl, in_X3, tyX3_ok, nmX3, by decide, by decide, Or.inl q261, by decide +kernel, rfl, rfl, rfl, rfl⟩
theorem fl_X1_341 : xFl RX1 341 9 18 (.int) false 0 0 := ⟨_, _, _, tyX10, rfl, in_X10, tyX10_ok, nmX10, by decide, by decide, Or.inl q644, by decide +kernel, rfl, rfl, rfl, rfl⟩
theorem fl_X1_346 : xFl RX1 346 9 0 (.int) true 0 0 := ⟨_, _, _, tyX10, rfl, in_X10, tyX10_ok, nmX10, by decide, by decide, Or.inl q610, by decide +kernel, rfl, rfl, rfl, rfl⟩
theorem fl_X1_357 : xFl RX1 357 9 10 (.boolean) false 0 0 := ⟨_, _, _, tyX10, rfl, in_X10, tyX10_ok, nmX10, by decide, by decide, Or.inl q630, by decide +kernel, rfl, rfl, rfl, rfl⟩
theorem fl_X1_368 : xFl RX1 368 9 9 (.int) false 0 0 := ⟨_, _, _, tyX10, rfl, in_X10, tyX10_ok, nmX10, by decide, by decide, Or.inl q628, by decide +kernel, rfl, rfl, rfl, rfl⟩
theorem fl_X1_371 : xFl RX1 371 0 19 (.object "DeedKernel$Process") false 2 9 := ⟨_, _, _, tyX1, rfl, in_X1, tyX1_ok, nmX1, by decide, by decide, Or.inl q758, by decide +kernel, rfl, rfl, rfl, rfl⟩
theorem fl_X1_382 : xFl RX1 382 2 5 (.array .int) false 2 31 := ⟨_, _, _, tyX3, rfl, in_X3, tyX3_ok, nmX3, by decide, by decide, Or.inl q265, by decide +kernel, rfl, rfl, rfl, rfl⟩
theorem fl_X1_394 : xFl RX1 394 6 17 (.int) false 0 0 := ⟨_, _, _, tyX7, rfl, in_X7, tyX7_ok, nmX7, by decide, by decide, Or.inl q471, by decide +kernel, rfl, rfl, rfl, rfl⟩
theorem fl_X1_395 : xFl RX1 395 6 16 (.array .int) true 3 38 := ⟨_, _, _, tyX7, rfl, in_X7, tyX7_ok, nmX7, by decide, by decide, Or.inl q469, by decide +kernel, rfl, rfl, rfl, rfl⟩
theorem fl_X1_397 : xFl RX1 397 6 18 (.int) false 0 0 := ⟨_, _, _, tyX7, rfl, in_X7, tyX7_ok, nmX7, by decide, by decide, Or.inl q473, by decide +kernel, rfl, rfl, rfl, rfl⟩
theorem fl_X1_409 : xFl RX1 409 6 20 (.int) false 0 0 := ⟨_, _, _, tyX7, rfl, in_X7, tyX7_ok, nmX7, by decide, by decide, Or.inl q475, by decide +kernel, rfl, rfl, rfl, rfl⟩
theorem fl_X1_412 : xFl RX1 412 6 21 (.int) false 0 0 := ⟨_, _, _, tyX7, rfl, in_X7, tyX7_ok, nmX7, by decide, by decide, Or.inl q476, by decide +kernel, rfl, rfl, rfl, rfl⟩
theorem fl_X1_415 : xFl RX1 415 6 15 (.int) false 0 0 := ⟨_, _, _, tyX7, rfl, in_X7, tyX7_ok, nmX7, by decide, by decide, Or.inl q467, by decide +kernel, rfl, rfl, rfl, rfl⟩
theorem fl_X1_418 : xFl RX1 418 6 22 (.int) false 0 0 := ⟨_, _, _, tyX7, rfl, in_X7, tyX7_ok, nmX7, by decide, by decide, Or.inl q477, by decide +kernel, rfl, rfl, rfl, rfl⟩
theorem fl_X1_430 : xFl RX1 430 6 24 (.int) false 0 0 := ⟨_, _, _, tyX7, rfl, in_X7, tyX7_ok, nmX7, by decide, by decide, Or.inl q480, by decide +kernel, rfl, rfl, rfl, rfl⟩
theorem fl_X1_433 : xFl RX1 433 6 25 (.int) false 0 0 := ⟨_, _, _, tyX7, rfl, in_X7, tyX7_ok, nmX7, by decide, by decide, Or.inl q481, by decide +kernel, rfl, rfl, rfl, rfl⟩
theorem fl_X1_436 : xFl RX1 436 6 23 (.array .int) true 3 39 := ⟨_, _, _, tyX7, rfl, in_X7, tyX7_ok, nmX7, by decide, by decide, Or.inl q479, by decide +kernel, rfl, rfl, rfl, rfl⟩
theorem fl_X1_439 : xFl RX1 439 6 19 (.boolean) false 0 0 := ⟨_, _, _, tyX7, rfl, in_X7, tyX7_ok, nmX7, by decide, by decide, Or.inl q474, by decide +kernel, rfl, rfl, rfl, rfl⟩
theorem fl_X1_448 : xFl RX1 448 6 0 (.int) true 0 0 := ⟨_, _, _, tyX7, rfl, in_X7, tyX7_ok, nmX7, by decide, by decide, Or.inl q435, by decide +kernel, rfl, rfl, rfl, rfl⟩
theorem fl_X1_457 : xFl RX1 457 6 29 (.array .byte) true 3 43 := ⟨_, _, _, tyX7, rfl, in_X7, tyX7_ok, nmX7, by decide, by decide, Or.inl q489, by decide +kernel, rfl, rfl, rfl, rfl⟩
theorem fl_X1_477 : xFl RX1 477 5 2 (.int) true 0 0 := ⟨_, _, _, tyX6, rfl, in_X6, tyX6_ok, nmX6, by decide, by decide, Or.inl q395, by decide +kernel, rfl, rfl, rfl, rfl⟩
theorem fl_X1_503 : xFl RX1 503 9 11 (.boolean) false 0 0 := ⟨_, _, _, tyX10, rfl, in_X10, tyX10_ok, nmX10, by decide, by decide, Or.inl q632, by decide +kernel, rfl, rfl, rfl, rfl⟩
theorem fl_X1_514 : xFl RX1 514 3 0 (.int) false 0 0 := ⟨_, _, _, (fun _ => .int), rfl, in_xX4, tyxX4, nmxX4, by decide, by decide, Or.inl q339, by decide +kernel, rfl, rfl, rfl, rfl⟩
theorem fl_X1_596 : xFl RX1 596 9 8 (.int) false 0 0 := ⟨_, _, _, tyX10, rfl, in_X10, tyX10_ok, nmX10, by decide, by decide, Or.inl q626, by decide +kernel, rfl, rfl, rfl, rfl⟩
theorem fl_X1_608 : xFl RX1 608 7 3 (.boolean) false 0 0 := ⟨_, _, _, tyX8, rfl, in_X8, tyX8_ok, nmX8, by decide, by decide, Or.inl q561, by decide +kernel, rfl, rfl, rfl, rfl⟩
theorem fl_X1_611 : xFl RX1 611 7 4 (.boolean) false 0 0 := ⟨_, _, _, tyX8, rfl, in_X8, tyX8_ok, nmX8, by decide, by decide, Or.inl q562, by decide +kernel, rfl, rfl, rfl, rfl⟩
theorem fl_X1_613 : xFl RX1 613 7 5 (.boolean) false 0 0 := ⟨_, _, _, tyX8, rfl, in_X8, tyX8_ok, nmX8, by decide, by decide, Or.inl q563, by decide +kernel, rfl, rfl, rfl, rfl⟩
theorem fl_X1_639 : xFl RX1 639 0 14 (.int) false 0 0 := ⟨_, _, _, tyX1, rfl, in_X1, tyX1_ok, nmX1, by decide, by decide, Or.inl q752, by decide +kernel, rfl, rfl, rfl, rfl⟩
theorem fl_X1_642 : xFl RX1 642 8 0 (.array .byte) true 3 44 := ⟨_, _, _, tyX9, rfl, in_X9, tyX9_ok, nmX9, by decide, by decide, Or.inl q589, by decide +kernel, rfl, rfl, rfl, rfl⟩
theorem fl_X1_696 : xFl RX1 696 6 27 (.array .int) true 3 41 := ⟨_, _, _, tyX7, rfl, in_X7, tyX7_ok, nmX7, by decide, by decide, Or.inl q486, by decide +kernel, rfl, rfl, rfl, rfl⟩
theorem fl_X1_703 : xFl RX1 703 9 2 (.int) false 0 0 := ⟨_, _, _, tyX10, rfl, in_X10, tyX10_ok, nmX10, by decide, by decide, Or.inl q614, by decide +kernel, rfl, rfl, rfl, rfl⟩
theorem fl_X1_706 : xFl RX1 706 9 12 (.int) false 0 0 := ⟨_, _, _, tyX10, rfl, in_X10, tyX10_ok, nmX10, by decide, by decide, Or.inl q633, by decide +kernel, rfl, rfl, rfl, rfl⟩
theorem fl_X1_715 : xFl RX1 715 9 13 (.array (.object "DeedKernel$Opening")) true 3 47 := ⟨_, _, _, tyX10, rfl, in_X10, tyX10_ok, nmX10, by decide, by decide, Or.inl q635, by decide +kernel, rfl, rfl, rfl, rfl⟩
theorem fl_X1_718 : xFl RX1 718 9 3 (.int) false 0 0 := ⟨_, _, _, tyX10, rfl, in_X10, tyX10_ok, nmX10, by decide, by decide, Or.inl q616, by decide +kernel, rfl, rfl, rfl, rfl⟩
theorem fl_X1_721 : xFl RX1 721 9 17 (.int) false 0 0 := ⟨_, _, _, tyX10, rfl, in_X10, tyX10_ok, nmX10, by decide, by decide, Or.inl q643, by decide +kernel, rfl, rfl, rfl, rfl⟩
theorem fl_X1_739 : xFl RX1 739 9 16 (.int) false 0 0 := ⟨_, _, _, tyX10, rfl, in_X10, tyX10_ok, nmX10, by decide, by decide, Or.inl q641, by decide +kernel, rfl, rfl, rfl, rfl⟩
theorem fl_X1_742 : xFl RX1 742 9 15 (.array .int) true 3 48 := ⟨_, _, _, tyX10, rfl, in_X10, tyX10_ok, nmX10, by decide, by decide, Or.inl q639, by decide +kernel, rfl, rfl, rfl, rfl⟩
theorem fl_X1_757 : xFl RX1 757 5 6 (.int) false 0 0 := ⟨_, _, _, tyX6, rfl, in_X6, tyX6_ok, nmX6, by decide, by decide, Or.inl q403, by decide +kernel, rfl, rfl, rfl, rfl⟩
theorem fl_X1_768 : xFl RX1 768 1 1 (.int) false 0 0 := ⟨_, _, _, tyX2, rfl, in_X2, tyX2_ok, nmX2, by decide, by decide, Or.inl q237, by decide +kernel, rfl, rfl, rfl, rfl⟩
theorem fl_X1_820 : xFl RX1 820 6 26 (.array .int) true 3 40 := ⟨_, _, _, tyX7, rfl, in_X7, tyX7_ok, nmX7, by decide, by decide, Or.inl q483, by decide +kernel, rfl, rfl, rfl, rfl⟩
theorem fl_X6_9 : xFl RX6 9 5 0 (.int) true 0 0 := ⟨_, _, _, tyX6, rfl, in_X6, tyX6_ok, nmX6, by decide, by decide, Or.inl q390, by decide +kernel, rfl, rfl, rfl, rfl⟩
theorem fl_X6_15 : xFl RX6 15 5 1 (.int) true 0 0 := ⟨_, _, _, tyX6, rfl, in_X6, tyX6_ok, nmX6, by decide, by decide, Or.inl q392, by decide +kernel, rfl, rfl, rfl, rfl⟩
theorem fl_X6_24 : xFl RX6 24 5 2 (.int) true 0 0 := ⟨_, _, _, tyX6, rfl, in_X6, tyX6_ok, nmX6, by decide, by decide, Or.inl q394, by decide +kernel, rfl, rfl, rfl, rfl⟩
theorem fl_X6_27 : xFl RX6 27 5 3 (.array .byte) true 3 35 := ⟨_, _, _, tyX6, rfl, in_X6, tyX6_ok, nmX6, by decide, by decide, Or.inl q396, by decide +kernel, rfl, rfl, rfl, rfl⟩
theorem fl_X6_35 : xFl RX6 35 5 4 (.int) false 0 0 := ⟨_, _, _, tyX6, rfl, in_X6, tyX6_ok, nmX6, by decide, by decide, Or.inl q398, by decide +kernel, rfl, rfl, rfl, rfl⟩
theorem fl_X6_38 : xFl RX6 38 5 5 (.int) false 0 0 := ⟨_, _, _, tyX6, rfl, in_X6, tyX6_ok, nmX6, by decide, by decide, Or.inl q400, by decide +kernel, rfl, rfl, rfl, rfl⟩
theorem fl_X6_41 : xFl RX6 41 5 6 (.int) false 0 0 := ⟨_, _, _, tyX6, rfl, in_X6, tyX6_ok, nmX6, by decide, by decide, Or.inl q402, by decide +kernel, rfl, rfl, rfl, rfl⟩
theorem fl_X6_50 : xFl RX6 50 5 7 (.boolean) false 0 0 := ⟨_, _, _, tyX6, rfl, in_X6, tyX6_ok, nmX6, by decide, by decide, Or.inl q404, by decide +kernel, rfl, rfl, rfl, rfl⟩
theorem fl_X2_9 : xFl RX2 9 1 0 (.array .byte) true 3 30 := ⟨_, _, _, tyX2, rfl, in_X2, tyX2_ok, nmX2, by decide, by decide, Or.inl q234, by decide +kernel, rfl, rfl, rfl, rfl⟩
theorem fl_X2_15 : xFl RX2 15 1 1 (.int) false 0 0 := ⟨_, _, _, tyX2, rfl, in_X2, tyX2_ok, nmX2, by decide, by decide, Or.inl q236, by decide +kernel, rfl, rfl, rfl, rfl⟩
theorem fl_X7_9 : xFl RX7 9 6 5 (.array .byte) true 3 36 := ⟨_, _, _, tyX7, rfl, in_X7, tyX7_ok, nmX7, by decide, by decide, Or.inl q447, by decide +kernel, rfl, rfl, rfl, rfl⟩
theorem fl_X7_15 : xFl RX7 15 6 9 (.array .byte) true 3 37 := ⟨_, _, _, tyX7, rfl, in_X7, tyX7_ok, nmX7, by decide, by decide, Or.inl q453, by decide +kernel, rfl, rfl, rfl, rfl⟩
theorem fl_X7_18 : xFl RX7 18 6 10 (.int) false 0 0 := ⟨_, _, _, tyX7, rfl, in_X7, tyX7_ok, nmX7, by decide, by decide, Or.inl q455, by decide +kernel, rfl, rfl, rfl, rfl⟩
theorem fl_X7_22 : xFl RX7 22 6 11 (.int) false 0 0 := ⟨_, _, _, tyX7, rfl, in_X7, tyX7_ok, nmX7, by decide, by decide, Or.inl q458, by decide +kernel, rfl, rfl, rfl, rfl⟩
theorem fl_X7_25 : xFl RX7 25 6 12 (.int) false 0 0 := ⟨_, _, _, tyX7, rfl, in_X7, tyX7_ok, nmX7, by decide, by decide, Or.inl q460, by decide +kernel, rfl, rfl, rfl, rfl⟩
theorem fl_X7_28 : xFl RX7 28 6 16 (.array .int) true 3 38 := ⟨_, _, _, tyX7, rfl, in_X7, tyX7_ok, nmX7, by decide, by decide, Or.inl q468, by decide +kernel, rfl, rfl, rfl, rfl⟩
theorem fl_X7_32 : xFl RX7 32 6 23 (.array .int) true 3 39 := ⟨_, _, _, tyX7, rfl, in_X7, tyX7_ok, nmX7, by decide, by decide, Or.inl q478, by decide +kernel, rfl, rfl, rfl, rfl⟩
theorem fl_X7_35 : xFl RX7 35 6 26 (.array .int) true 3 40 := ⟨_, _, _, tyX7, rfl, in_X7, tyX7_ok, nmX7, by decide, by decide, Or.inl q482, by decide +kernel, rfl, rfl, rfl, rfl⟩
theorem fl_X7_38 : xFl RX7 38 6 27 (.array .int) true 3 41 := ⟨_, _, _, tyX7, rfl, in_X7, tyX7_ok, nmX7, by decide, by decide, Or.inl q484, by decide +kernel, rfl, rfl, rfl, rfl⟩
theorem fl_X7_41 : xFl RX7 41 6 28 (.array .int) true 3 42 := ⟨_, _, _, tyX7, rfl, in_X7, tyX7_ok, nmX7, by decide, by decide, Or.inl q487, by decide +kernel, rfl, rfl, rfl, rfl⟩
theorem fl_X7_44 : xFl RX7 44 6 29 (.array .byte) true 3 43 := ⟨_, _, _, tyX7, rfl, in_X7, tyX7_ok, nmX7, by decide, by decide, Or.inl q488, by decide +kernel, rfl, rfl, rfl, rfl⟩
theorem fl_X7_47 : xFl RX7 47 6 0 (.int) true 0 0 := ⟨_, _, _, tyX7, rfl, in_X7, tyX7_ok, nmX7, by decide, by decide, Or.inl q433, by decide +kernel, rfl, rfl, rfl, rfl⟩
theorem fl_X7_50 : xFl RX7 50 6 1 (.int) false 0 0 := ⟨_, _, _, tyX7, rfl, in_X7, tyX7_ok, nmX7, by decide, by decide, Or.inl q436, by decide +kernel, rfl, rfl, rfl, rfl⟩
theorem fl_X7_53 : xFl RX7 53 6 13 (.int) false 0 0 := ⟨_, _, _, tyX7, rfl, in_X7, tyX7_ok, nmX7, by decide, by decide, Or.inl q462, by decide +kernel, rfl, rfl, rfl, rfl⟩
theorem fl_X7_56 : xFl RX7 56 6 2 (.int) false 0 0 := ⟨_, _, _, tyX7, rfl, in_X7, tyX7_ok, nmX7, by decide, by decide, Or.inl q439, by decide +kernel, rfl, rfl, rfl, rfl⟩
theorem fl_X7_59 : xFl RX7 59 6 6 (.int) false 0 0 := ⟨_, _, _, tyX7, rfl, in_X7, tyX7_ok, nmX7, by decide, by decide, Or.inl q449, by decide +kernel, rfl, rfl, rfl, rfl⟩
theorem fl_X7_62 : xFl RX7 62 6 3 (.int) false 0 0 := ⟨_, _, _, tyX7, rfl, in_X7, tyX7_ok, nmX7, by decide, by decide, Or.inl q442, by decide +kernel, rfl, rfl, rfl, rfl⟩
theorem fl_X7_65 : xFl RX7 65 6 4 (.int) false 0 0 := ⟨_, _, _, tyX7, rfl, in_X7, tyX7_ok, nmX7, by decide, by decide, Or.inl q444, by decide +kernel, rfl, rfl, rfl, rfl⟩
theorem fl_X7_68 : xFl RX7 68 6 14 (.int) false 0 0 := ⟨_, _, _, tyX7, rfl, in_X7, tyX7_ok, nmX7, by decide, by decide, Or.inl q464, by decide +kernel, rfl, rfl, rfl, rfl⟩
theorem fl_X7_71 : xFl RX7 71 6 15 (.int) false 0 0 := ⟨_, _, _, tyX7, rfl, in_X7, tyX7_ok, nmX7, by decide, by decide, Or.inl q466, by decide +kernel, rfl, rfl, rfl, rfl⟩
theorem fl_X7_74 : xFl RX7 74 6 17 (.int) false 0 0 := ⟨_, _, _, tyX7, rfl, in_X7, tyX7_ok, nmX7, by decide, by decide, Or.inl q470, by decide +kernel, rfl, rfl, rfl, rfl⟩
theorem fl_X7_77 : xFl RX7 77 6 18 (.int) false 0 0 := ⟨_, _, _, tyX7, rfl, in_X7, tyX7_ok, nmX7, by decide, by decide, Or.inl q472, by decide +kernel, rfl, rfl, rfl, rfl⟩
theorem fl_X8_7 : xFl RX8 7 7 0 (.object "DeedKernel$Inode") false 2 6 := ⟨_, _, _, tyX8, rfl, in_X8, tyX8_ok, nmX8, by decide, by decide, Or.inl q557, by decide +kernel, rfl, rfl, rfl, rfl⟩
theorem fl_X5_3 : xFl RX5 3 4 4 (.object "DeedKernel") true 3 0 := ⟨_, _, _, tyX5, rfl, in_X5, tyX5_ok, nmX5, by decide, by decide, Or.inl q366, by decide +kernel, rfl, rfl, rfl, rfl⟩
theorem fl_X5_15 : xFl RX5 15 4 0 (.array .int) true 3 33 := ⟨_, _, _, tyX5, rfl, in_X5, tyX5_ok, nmX5, by decide, by decide, Or.inl q361, by decide +kernel, rfl, rfl, rfl, rfl⟩
theorem fl_X5_19 : xFl RX5 19 4 1 (.array .int) true 3 34 := ⟨_, _, _, tyX5, rfl, in_X5, tyX5_ok, nmX5, by decide, by decide, Or.inl q362, by decide +kernel, rfl, rfl, rfl, rfl⟩
theorem fl_X5_22 : xFl RX5 22 4 2 (.int) false 0 0 := ⟨_, _, _, tyX5, rfl, in_X5, tyX5_ok, nmX5, by decide, by decide, Or.inl q363, by decide +kernel, rfl, rfl, rfl, rfl⟩
theorem fl_X5_30 : xFl RX5 30 4 3 (.boolean) false 0 0 := ⟨_, _, _, tyX5, rfl, in_X5, tyX5_ok, nmX5, by decide, by decide, Or.inl q365, by decide +kernel, rfl, rfl, rfl, rfl⟩
theorem fl_X5_47 : xFl RX5 47 6 0 (.int) true 0 0 := ⟨_, _, _, tyX7, rfl, in_X7, tyX7_ok, nmX7, by decide, by decide, Or.inl q434, by decide +kernel, rfl, rfl, rfl, rfl⟩
theorem fl_X5_68 : xFl RX5 68 6 27 (.array .int) true 3 41 := ⟨_, _, _, tyX7, rfl, in_X7, tyX7_ok, nmX7, by decide, by decide, Or.inl q485, by decide +kernel, rfl, rfl, rfl, rfl⟩
theorem fl_X5_75 : xFl RX5 75 9 5 (.object "DeedKernel$Inode") false 2 6 := ⟨_, _, _, tyX10, rfl, in_X10, tyX10_ok, nmX10, by decide, by decide, Or.inl q621, by decide +kernel, rfl, rfl, rfl, rfl⟩
theorem fl_X5_93 : xFl RX5 93 6 2 (.int) false 0 0 := ⟨_, _, _, tyX7, rfl, in_X7, tyX7_ok, nmX7, by decide, by decide, Or.inl q441, by decide +kernel, rfl, rfl, rfl, rfl⟩
theorem fl_X5_96 : xFl RX5 96 6 4 (.int) false 0 0 := ⟨_, _, _, tyX7, rfl, in_X7, tyX7_ok, nmX7, by decide, by decide, Or.inl q445, by decide +kernel, rfl, rfl, rfl, rfl⟩
theorem fl_X5_146 : xFl RX5 146 6 1 (.int) false 0 0 := ⟨_, _, _, tyX7, rfl, in_X7, tyX7_ok, nmX7, by decide, by decide, Or.inl q438, by decide +kernel, rfl, rfl, rfl, rfl⟩
theorem fl_X5_149 : xFl RX5 149 6 10 (.int) false 0 0 := ⟨_, _, _, tyX7, rfl, in_X7, tyX7_ok, nmX7, by decide, by decide, Or.inl q457, by decide +kernel, rfl, rfl, rfl, rfl⟩
theorem fl_X9_9 : xFl RX9 9 8 0 (.array .byte) true 3 44 := ⟨_, _, _, tyX9, rfl, in_X9, tyX9_ok, nmX9, by decide, by decide, Or.inl q588, by decide +kernel, rfl, rfl, rfl, rfl⟩
theorem fl_X9_15 : xFl RX9 15 8 2 (.array .byte) true 3 45 := ⟨_, _, _, tyX9, rfl, in_X9, tyX9_ok, nmX9, by decide, by decide, Or.inl q592, by decide +kernel, rfl, rfl, rfl, rfl⟩
theorem fl_X9_18 : xFl RX9 18 8 1 (.int) false 0 0 := ⟨_, _, _, tyX9, rfl, in_X9, tyX9_ok, nmX9, by decide, by decide, Or.inl q590, by decide +kernel, rfl, rfl, rfl, rfl⟩
theorem fl_X9_28 : xFl RX9 28 8 3 (.int) false 0 0 := ⟨_, _, _, tyX9, rfl, in_X9, tyX9_ok, nmX9, by decide, by decide, Or.inl q593, by decide +kernel, rfl, rfl, rfl, rfl⟩
theorem fl_X10_11 : xFl RX10 11 9 4 (.array (.object "DeedKernel$Opening")) true 3 46 := ⟨_, _, _, tyX10, rfl, in_X10, tyX10_ok, nmX10, by decide, by decide, Or.inl q617, by decide +kernel, rfl, rfl, rfl, rfl⟩
theorem fl_X10_17 : xFl RX10 17 9 13 (.array (.object "DeedKernel$Opening")) true 3 47 := ⟨_, _, _, tyX10, rfl, in_X10, tyX10_ok, nmX10, by decide, by decide, Or.inl q634, by decide +kernel, rfl, rfl, rfl, rfl⟩
theorem fl_X10_20 : xFl RX10 20 9 15 (.array .int) true 3 48 := ⟨_, _, _, tyX10, rfl, in_X10, tyX10_ok, nmX10, by decide, by decide, Or.inl q638, by decide +kernel, rfl, rfl, rfl, rfl⟩
theorem fl_X10_24 : xFl RX10 24 9 0 (.int) true 0 0 := ⟨_, _, _, tyX10, rfl, in_X10, tyX10_ok, nmX10, by decide, by decide, Or.inl q609, by decide +kernel, rfl, rfl, rfl, rfl⟩
theorem fl_X10_28 : xFl RX10 28 9 1 (.int) false 0 0 := ⟨_, _, _, tyX10, rfl, in_X10, tyX10_ok, nmX10, by decide, by decide, Or.inl q611, by decide +kernel, rfl, rfl, rfl, rfl⟩
theorem fl_X10_31 : xFl RX10 31 9 2 (.int) false 0 0 := ⟨_, _, _, tyX10, rfl, in_X10, tyX10_ok, nmX10, by decide, by decide, Or.inl q613, by decide +kernel, rfl, rfl, rfl, rfl⟩
theorem fl_X10_34 : xFl RX10 34 9 3 (.int) false 0 0 := ⟨_, _, _, tyX10, rfl, in_X10, tyX10_ok, nmX10, by decide, by decide, Or.inl q615, by decide +kernel, rfl, rfl, rfl, rfl⟩
theorem fl_X10_37 : xFl RX10 37 9 5 (.object "DeedKernel$Inode") false 2 6 := ⟨_, _, _, tyX10, rfl, in_X10, tyX10_ok, nmX10, by decide, by decide, Or.inl q619, by decide +kernel, rfl, rfl, rfl, rfl⟩
theorem fl_X10_41 : xFl RX10 41 9 6 (.int) false 0 0 := ⟨_, _, _, tyX10, rfl, in_X10, tyX10_ok, nmX10, by decide, by decide, Or.inl q622, by decide +kernel, rfl, rfl, rfl, rfl⟩
theorem fl_X10_44 : xFl RX10 44 9 10 (.boolean) false 0 0 := ⟨_, _, _, tyX10, rfl, in_X10, tyX10_ok, nmX10, by decide, by decide, Or.inl q629, by decide +kernel, rfl, rfl, rfl, rfl⟩
theorem fl_X10_51 : xFl RX10 51 9 8 (.int) false 0 0 := ⟨_, _, _, tyX10, rfl, in_X10, tyX10_ok, nmX10, by decide, by decide, Or.inl q625, by decide +kernel, rfl, rfl, rfl, rfl⟩
theorem fl_X10_54 : xFl RX10 54 9 9 (.int) false 0 0 := ⟨_, _, _, tyX10, rfl, in_X10, tyX10_ok, nmX10, by decide, by decide, Or.inl q627, by decide +kernel, rfl, rfl, rfl, rfl⟩
theorem fl_X10_57 : xFl RX10 57 9 11 (.boolean) false 0 0 := ⟨_, _, _, tyX10, rfl, in_X10, tyX10_ok, nmX10, by decide, by decide, Or.inl q631, by decide +kernel, rfl, rfl, rfl, rfl⟩
theorem fl_X10_60 : xFl RX10 60 9 16 (.int) false 0 0 := ⟨_, _, _, tyX10, rfl, in_X10, tyX10_ok, nmX10, by decide, by decide, Or.inl q640, by decide +kernel, rfl, rfl, rfl, rfl⟩
theorem fl_X10_63 : xFl RX10 63 9 17 (.int) false 0 0 := ⟨_, _, _, tyX10, rfl, in_X10, tyX10_ok, nmX10, by decide, by decide, Or.inl q642, by decide +kernel, rfl, rfl, rfl, rfl⟩
theorem fl_X10_66 : xFl RX10 66 9 14 (.object "DeedKernel$Inode") false 2 6 := ⟨_, _, _, tyX10, rfl, in_X10, tyX10_ok, nmX10, by decide, by decide, Or.inl q636, by decide +kernel, rfl, rfl, rfl, rfl⟩
theorem fl_X4_7 : xFl RX4 7 3 0 (.int) false 0 0 := ⟨_, _, _, (fun _ => .int), rfl, in_xX4, tyxX4, nmxX4, by decide, by decide, Or.inl q338, by decide +kernel, rfl, rfl, rfl, rfl⟩
theorem fl_X3_9 : xFl RX3 9 2 1 (.array .int) false 2 31 := ⟨_, _, _, tyX3, rfl, in_X3, tyX3_ok, nmX3, by decide, by decide, Or.inl q258, by decide +kernel, rfl, rfl, rfl, rfl⟩
theorem fl_X3_15 : xFl RX3 15 2 2 (.array .int) false 2 31 := ⟨_, _, _, tyX3, rfl, in_X3, tyX3_ok, nmX3, by decide, by decide, Or.inl q260, by decide +kernel, rfl, rfl, rfl, rfl⟩
theorem fl_X3_18 : xFl RX3 18 2 3 (.array .long) false 2 32 := ⟨_, _, _, tyX3, rfl, in_X3, tyX3_ok, nmX3, by decide, by decide, Or.inl q262, by decide +kernel, rfl, rfl, rfl, rfl⟩
theorem fl_X3_22 : xFl RX3 22 2 4 (.array .long) false 2 32 := ⟨_, _, _, tyX3, rfl, in_X3, tyX3_ok, nmX3, by decide, by decide, Or.inl q263, by decide +kernel, rfl, rfl, rfl, rfl⟩
theorem fl_X3_25 : xFl RX3 25 2 5 (.array .int) false 2 31 := ⟨_, _, _, tyX3, rfl, in_X3, tyX3_ok, nmX3, by decide, by decide, Or.inl q264, by decide +kernel, rfl, rfl, rfl, rfl⟩
theorem fl_X3_28 : xFl RX3 28 2 6 (.array .int) false 2 31 := ⟨_, _, _, tyX3, rfl, in_X3, tyX3_ok, nmX3, by decide, by decide, Or.inl q266, by decide +kernel, rfl, rfl, rfl, rfl⟩
theorem fl_X3_37 : xFl RX3 37 2 0 (.int) false 0 0 := ⟨_, _, _, tyX3, rfl, in_X3, tyX3_ok, nmX3, by decide, by decide, Or.inl q256, by decide +kernel, rfl, rfl, rfl, rfl⟩
theorem fl_X11_7 : xFl RX11 7 10 45 (.int) false 0 0 := ⟨_, _, _, tyX11, rfl, in_X11, tyX11_ok, nmX11, by decide, by decide, Or.inl q1949, by decide +kernel, rfl, rfl, rfl, rfl⟩
theorem fl_X11_19 : xFl RX11 19 10 18 (.array .int) true 3 65 := ⟨_, _, _, tyX11, rfl, in_X11, tyX11_ok, nmX11, by decide, by decide, Or.inl q1922, by decide +kernel, rfl, rfl, rfl, rfl⟩
theorem fl_X11_23 : xFl RX11 23 10 19 (.array .int) true 3 66 := ⟨_, _, _, tyX11, rfl, in_X11, tyX11_ok, nmX11, by decide, by decide, Or.inl q1923, by decide +kernel, rfl, rfl, rfl, rfl⟩
theorem fl_X11_26 : xFl RX11 26 10 20 (.array .int) true 3 67 := ⟨_, _, _, tyX11, rfl, in_X11, tyX11_ok, nmX11, by decide, by decide, Or.inl q1924, by decide +kernel, rfl, rfl, rfl, rfl⟩
theorem fl_X11_29 : xFl RX11 29 10 21 (.array .int) true 3 68 := ⟨_, _, _, tyX11, rfl, in_X11, tyX11_ok, nmX11, by decide, by decide, Or.inl q1925, by decide +kernel, rfl, rfl, rfl, rfl⟩
theorem fl_X11_32 : xFl RX11 32 10 22 (.array .int) true 3 69 := ⟨_, _, _, tyX11, rfl, in_X11, tyX11_ok, nmX11, by decide, by decide, Or.inl q1926, by decide +kernel, rfl, rfl, rfl, rfl⟩
theorem fl_X11_37 : xFl RX11 37 10 23 (.array (.array .int)) true 3 71 := ⟨_, _, _, tyX11, rfl, in_X11, tyX11_ok, nmX11, by decide, by decide, Or.inl q1927, by decide +kernel, rfl, rfl, rfl, rfl⟩
theorem fl_X11_40 : xFl RX11 40 10 24 (.array .int) true 3 72 := ⟨_, _, _, tyX11, rfl, in_X11, tyX11_ok, nmX11, by decide, by decide, Or.inl q1928, by decide +kernel, rfl, rfl, rfl, rfl⟩
theorem fl_X11_45 : xFl RX11 45 10 25 (.array (.array .byte)) true 3 73 := ⟨_, _, _, tyX11, rfl, in_X11, tyX11_ok, nmX11, by decide, by decide, Or.inl q1929, by decide +kernel, rfl, rfl, rfl, rfl⟩
theorem fl_X11_48 : xFl RX11 48 10 26 (.array (.array .int)) true 3 75 := ⟨_, _, _, tyX11, rfl, in_X11, tyX11_ok, nmX11, by decide, by decide, Or.inl q1930, by decide +kernel, rfl, rfl, rfl, rfl⟩
theorem fl_X11_53 : xFl RX11 53 10 27 (.array (.array .long)) true 3 77 := ⟨_, _, _, tyX11, rfl, in_X11, tyX11_ok, nmX11, by decide, by decide, Or.inl q1931, by decide +kernel, rfl, rfl, rfl, rfl⟩
theorem fl_X11_56 : xFl RX11 56 10 28 (.array (.array .long)) true 3 79 := ⟨_, _, _, tyX11, rfl, in_X11, tyX11_ok, nmX11, by decide, by decide, Or.inl q1932, by decide +kernel, rfl, rfl, rfl, rfl⟩
theorem fl_X11_59 : xFl RX11 59 10 29 (.array .int) true 3 80 := ⟨_, _, _, tyX11, rfl, in_X11, tyX11_ok, nmX11, by decide, by decide, Or.inl q1933, by decide +kernel, rfl, rfl, rfl, rfl⟩
theorem fl_X11_62 : xFl RX11 62 10 30 (.array .int) true 3 81 := ⟨_, _, _, tyX11, rfl, in_X11, tyX11_ok, nmX11, by decide, by decide, Or.inl q1934, by decide +kernel, rfl, rfl, rfl, rfl⟩
theorem fl_X11_65 : xFl RX11 65 10 31 (.array .int) true 3 82 := ⟨_, _, _, tyX11, rfl, in_X11, tyX11_ok, nmX11, by decide, by decide, Or.inl q1935, by decide +kernel, rfl, rfl, rfl, rfl⟩
theorem fl_X11_68 : xFl RX11 68 10 32 (.array (.array .int)) true 3 84 := ⟨_, _, _, tyX11, rfl, in_X11, tyX11_ok, nmX11, by decide, by decide, Or.inl q1936, by decide +kernel, rfl, rfl, rfl, rfl⟩
theorem fl_X11_71 : xFl RX11 71 10 33 (.array .int) true 3 85 := ⟨_, _, _, tyX11, rfl, in_X11, tyX11_ok, nmX11, by decide, by decide, Or.inl q1937, by decide +kernel, rfl, rfl, rfl, rfl⟩
theorem fl_X11_74 : xFl RX11 74 10 34 (.array .int) true 3 86 := ⟨_, _, _, tyX11, rfl, in_X11, tyX11_ok, nmX11, by decide, by decide, Or.inl q1938, by decide +kernel, rfl, rfl, rfl, rfl⟩
theorem fl_X11_77 : xFl RX11 77 10 35 (.array .boolean) true 3 87 := ⟨_, _, _, tyX11, rfl, in_X11, tyX11_ok, nmX11, by decide, by decide, Or.inl q1939, by decide +kernel, rfl, rfl, rfl, rfl⟩
theorem fl_X11_81 : xFl RX11 81 10 36 (.array .int) true 3 88 := ⟨_, _, _, tyX11, rfl, in_X11, tyX11_ok, nmX11, by decide, by decide, Or.inl q1940, by decide +kernel, rfl, rfl, rfl, rfl⟩
theorem fl_X11_84 : xFl RX11 84 10 37 (.array .int) true 3 89 := ⟨_, _, _, tyX11, rfl, in_X11, tyX11_ok, nmX11, by decide, by decide, Or.inl q1941, by decide +kernel, rfl, rfl, rfl, rfl⟩
theorem fl_X11_87 : xFl RX11 87 10 38 (.array .int) true 3 90 := ⟨_, _, _, tyX11, rfl, in_X11, tyX11_ok, nmX11, by decide, by decide, Or.inl q1942, by decide +kernel, rfl, rfl, rfl, rfl⟩
theorem fl_X11_90 : xFl RX11 90 10 39 (.array .int) true 3 91 := ⟨_, _, _, tyX11, rfl, in_X11, tyX11_ok, nmX11, by decide, by decide, Or.inl q1943, by decide +kernel, rfl, rfl, rfl, rfl⟩
theorem fl_X11_93 : xFl RX11 93 10 40 (.array .int) true 3 92 := ⟨_, _, _, tyX11, rfl, in_X11, tyX11_ok, nmX11, by decide, by decide, Or.inl q1944, by decide +kernel, rfl, rfl, rfl, rfl⟩
theorem fl_X11_96 : xFl RX11 96 10 41 (.array (.array .byte)) true 3 94 := ⟨_, _, _, tyX11, rfl, in_X11, tyX11_ok, nmX11, by decide, by decide, Or.inl q1945, by decide +kernel, rfl, rfl, rfl, rfl⟩
theorem fl_X11_99 : xFl RX11 99 10 42 (.array .int) true 3 95 := ⟨_, _, _, tyX11, rfl, in_X11, tyX11_ok, nmX11, by decide, by decide, Or.inl q1946, by decide +kernel, rfl, rfl, rfl, rfl⟩
theorem fl_X11_104 : xFl RX11 104 10 43 (.array (.object "DeedKernelModel$Group")) true 3 96 := ⟨_, _, _, tyX11, rfl, in_X11, tyX11_ok, nmX11, by decide, by decide, Or.inl q1947, by decide +kernel, rfl, rfl, rfl, rfl⟩
theorem fl_X11_109 : xFl RX11 109 10 44 (.object "DeedKernelModel$Group") true 3 11 := ⟨_, _, _, tyX11, rfl, in_X11, tyX11_ok, nmX11, by decide, by decide, Or.inl q1948, by decide +kernel, rfl, rfl, rfl, rfl⟩
theorem fl_X11_113 : xFl RX11 113 10 46 (.array .int) true 3 97 := ⟨_, _, _, tyX11, rfl, in_X11, tyX11_ok, nmX11, by decide, by decide, Or.inl q1950, by decide +kernel, rfl, rfl, rfl, rfl⟩
theorem fl_X11_116 : xFl RX11 116 10 48 (.array .int) true 3 98 := ⟨_, _, _, tyX11, rfl, in_X11, tyX11_ok, nmX11, by decide, by decide, Or.inl q1952, by decide +kernel, rfl, rfl, rfl, rfl⟩
theorem fl_X11_119 : xFl RX11 119 10 50 (.array .byte) true 3 99 := ⟨_, _, _, tyX11, rfl, in_X11, tyX11_ok, nmX11, by decide, by decide, Or.inl q1954, by decide +kernel, rfl, rfl, rfl, rfl⟩
theorem fl_X11_123 : xFl RX11 123 10 52 (.array .int) true 3 100 := ⟨_, _, _, tyX11, rfl, in_X11, tyX11_ok, nmX11, by decide, by decide, Or.inl q1956, by decide +kernel, rfl, rfl, rfl, rfl⟩
theorem fl_X11_126 : xFl RX11 126 10 53 (.array .byte) true 3 101 := ⟨_, _, _, tyX11, rfl, in_X11, tyX11_ok, nmX11, by decide, by decide, Or.inl q1957, by decide +kernel, rfl, rfl, rfl, rfl⟩
theorem fl_X11_129 : xFl RX11 129 10 57 (.int) false 0 0 := ⟨_, _, _, tyX11, rfl, in_X11, tyX11_ok, nmX11, by decide, by decide, Or.inl q1961, by decide +kernel, rfl, rfl, rfl, rfl⟩
theorem fl_X11_132 : xFl RX11 132 10 58 (.array .int) true 3 102 := ⟨_, _, _, tyX11, rfl, in_X11, tyX11_ok, nmX11, by decide, by decide, Or.inl q1962, by decide +kernel, rfl, rfl, rfl, rfl⟩
theorem fl_X11_135 : xFl RX11 135 10 59 (.array .int) true 3 103 := ⟨_, _, _, tyX11, rfl, in_X11, tyX11_ok, nmX11, by decide, by decide, Or.inl q1963, by decide +kernel, rfl, rfl, rfl, rfl⟩
theorem fl_X11_138 : xFl RX11 138 10 60 (.array .int) true 3 104 := ⟨_, _, _, tyX11, rfl, in_X11, tyX11_ok, nmX11, by decide, by decide, Or.inl q1964, by decide +kernel, rfl, rfl, rfl, rfl⟩
theorem fl_X11_141 : xFl RX11 141 10 61 (.array .int) true 3 105 := ⟨_, _, _, tyX11, rfl, in_X11, tyX11_ok, nmX11, by decide, by decide, Or.inl q1965, by decide +kernel, rfl, rfl, rfl, rfl⟩
theorem fl_X11_144 : xFl RX11 144 10 62 (.array .int) true 3 106 := ⟨_, _, _, tyX11, rfl, in_X11, tyX11_ok, nmX11, by decide, by decide, Or.inl q1966, by decide +kernel, rfl, rfl, rfl, rfl⟩
theorem fl_X11_147 : xFl RX11 147 10 63 (.array (.array .int)) true 3 108 := ⟨_, _, _, tyX11, rfl, in_X11, tyX11_ok, nmX11, by decide, by decide, Or.inl q1967, by decide +kernel, rfl, rfl, rfl, rfl⟩
theorem fl_X11_150 : xFl RX11 150 10 64 (.array .int) true 3 109 := ⟨_, _, _, tyX11, rfl, in_X11, tyX11_ok, nmX11, by decide, by decide, Or.inl q1968, by decide +kernel, rfl, rfl, rfl, rfl⟩
theorem fl_X11_154 : xFl RX11 154 10 65 (.array (.array .byte)) true 3 110 := ⟨_, _, _, tyX11, rfl, in_X11, tyX11_ok, nmX11, by decide, by decide, Or.inl q1969, by decide +kernel, rfl, rfl, rfl, rfl⟩
theorem fl_X11_157 : xFl RX11 157 10 66 (.array .boolean) true 3 111 := ⟨_, _, _, tyX11, rfl, in_X11, tyX11_ok, nmX11, by decide, by decide, Or.inl q1970, by decide +kernel, rfl, rfl, rfl, rfl⟩
theorem fl_X11_160 : xFl RX11 160 10 67 (.array .boolean) true 3 112 := ⟨_, _, _, tyX11, rfl, in_X11, tyX11_ok, nmX11, by decide, by decide, Or.inl q1971, by decide +kernel, rfl, rfl, rfl, rfl⟩
theorem fl_X11_163 : xFl RX11 163 10 68 (.array .int) false 2 61 := ⟨_, _, _, tyX11, rfl, in_X11, tyX11_ok, nmX11, by decide, by decide, Or.inl q1972, by decide +kernel, rfl, rfl, rfl, rfl⟩
theorem fl_X11_166 : xFl RX11 166 10 69 (.array .long) false 2 62 := ⟨_, _, _, tyX11, rfl, in_X11, tyX11_ok, nmX11, by decide, by decide, Or.inl q1973, by decide +kernel, rfl, rfl, rfl, rfl⟩
theorem fl_X11_170 : xFl RX11 170 10 70 (.array .long) false 2 62 := ⟨_, _, _, tyX11, rfl, in_X11, tyX11_ok, nmX11, by decide, by decide, Or.inl q1974, by decide +kernel, rfl, rfl, rfl, rfl⟩
theorem fl_X11_173 : xFl RX11 173 10 71 (.array .long) true 3 113 := ⟨_, _, _, tyX11, rfl, in_X11, tyX11_ok, nmX11, by decide, by decide, Or.inl q1975, by decide +kernel, rfl, rfl, rfl, rfl⟩
theorem fl_X11_176 : xFl RX11 176 10 72 (.array .long) true 3 114 := ⟨_, _, _, tyX11, rfl, in_X11, tyX11_ok, nmX11, by decide, by decide, Or.inl q1976, by decide +kernel, rfl, rfl, rfl, rfl⟩
theorem fl_X11_179 : xFl RX11 179 10 73 (.array .int) true 3 115 := ⟨_, _, _, tyX11, rfl, in_X11, tyX11_ok, nmX11, by decide, by decide, Or.inl q1977, by decide +kernel, rfl, rfl, rfl, rfl⟩
theorem fl_X11_182 : xFl RX11 182 10 81 (.array (.array .byte)) true 3 116 := ⟨_, _, _, tyX11, rfl, in_X11, tyX11_ok, nmX11, by decide, by decide, Or.inl q1985, by decide +kernel, rfl, rfl, rfl, rfl⟩
theorem fl_X11_185 : xFl RX11 185 10 82 (.array .long) true 3 117 := ⟨_, _, _, tyX11, rfl, in_X11, tyX11_ok, nmX11, by decide, by decide, Or.inl q1986, by decide +kernel, rfl, rfl, rfl, rfl⟩
theorem fl_X11_188 : xFl RX11 188 10 83 (.array .long) true 3 118 := ⟨_, _, _, tyX11, rfl, in_X11, tyX11_ok, nmX11, by decide, by decide, Or.inl q1987, by decide +kernel, rfl, rfl, rfl, rfl⟩
theorem fl_X11_191 : xFl RX11 191 10 84 (.array .int) true 3 119 := ⟨_, _, _, tyX11, rfl, in_X11, tyX11_ok, nmX11, by decide, by decide, Or.inl q1988, by decide +kernel, rfl, rfl, rfl, rfl⟩
theorem fl_X11_194 : xFl RX11 194 10 0 (.int) true 0 0 := ⟨_, _, _, tyX11, rfl, in_X11, tyX11_ok, nmX11, by decide, by decide, Or.inl q1904, by decide +kernel, rfl, rfl, rfl, rfl⟩
theorem fl_X11_197 : xFl RX11 197 10 1 (.int) true 0 0 := ⟨_, _, _, tyX11, rfl, in_X11, tyX11_ok, nmX11, by decide, by decide, Or.inl q1905, by decide +kernel, rfl, rfl, rfl, rfl⟩
theorem fl_X11_206 : xFl RX11 206 10 2 (.int) true 0 0 := ⟨_, _, _, tyX11, rfl, in_X11, tyX11_ok, nmX11, by decide, by decide, Or.inl q1906, by decide +kernel, rfl, rfl, rfl, rfl⟩
theorem fl_X11_209 : xFl RX11 209 10 3 (.int) true 0 0 := ⟨_, _, _, tyX11, rfl, in_X11, tyX11_ok, nmX11, by decide, by decide, Or.inl q1907, by decide +kernel, rfl, rfl, rfl, rfl⟩
theorem fl_X11_212 : xFl RX11 212 10 4 (.int) true 0 0 := ⟨_, _, _, tyX11, rfl, in_X11, tyX11_ok, nmX11, by decide, by decide, Or.inl q1908, by decide +kernel, rfl, rfl, rfl, rfl⟩
theorem fl_X11_215 : xFl RX11 215 10 5 (.int) true 0 0 := ⟨_, _, _, tyX11, rfl, in_X11, tyX11_ok, nmX11, by decide, by decide, Or.inl q1909, by decide +kernel, rfl, rfl, rfl, rfl⟩
theorem fl_X11_218 : xFl RX11 218 10 6 (.array .byte) true 3 63 := ⟨_, _, _, tyX11, rfl, in_X11, tyX11_ok, nmX11, by decide, by decide, Or.inl q1910, by decide +kernel, rfl, rfl, rfl, rfl⟩
theorem fl_X11_221 : xFl RX11 221 10 7 (.array .byte) true 3 64 := ⟨_, _, _, tyX11, rfl, in_X11, tyX11_ok, nmX11, by decide, by decide, Or.inl q1911, by decide +kernel, rfl, rfl, rfl, rfl⟩
theorem fl_X11_227 : xFl RX11 227 10 8 (.int) false 0 0 := ⟨_, _, _, tyX11, rfl, in_X11, tyX11_ok, nmX11, by decide, by decide, Or.inl q1912, by decide +kernel, rfl, rfl, rfl, rfl⟩
theorem fl_X11_234 : xFl RX11 234 10 12 (.int) false 0 0 := ⟨_, _, _, tyX11, rfl, in_X11, tyX11_ok, nmX11, by decide, by decide, Or.inl q1916, by decide +kernel, rfl, rfl, rfl, rfl⟩
theorem fl_X11_237 : xFl RX11 237 10 13 (.int) false 0 0 := ⟨_, _, _, tyX11, rfl, in_X11, tyX11_ok, nmX11, by decide, by decide, Or.inl q1917, by decide +kernel, rfl, rfl, rfl, rfl⟩
theorem fl_X11_240 : xFl RX11 240 10 14 (.int) false 0 0 := ⟨_, _, _, tyX11, rfl, in_X11, tyX11_ok, nmX11, by decide, by decide, Or.inl q1918, by decide +kernel, rfl, rfl, rfl, rfl⟩
theorem fl_X11_243 : xFl RX11 243 10 15 (.int) false 0 0 := ⟨_, _, _, tyX11, rfl, in_X11, tyX11_ok, nmX11, by decide, by decide, Or.inl q1919, by decide +kernel, rfl, rfl, rfl, rfl⟩
theorem fl_X11_246 : xFl RX11 246 10 16 (.int) false 0 0 := ⟨_, _, _, tyX11, rfl, in_X11, tyX11_ok, nmX11, by decide, by decide, Or.inl q1920, by decide +kernel, rfl, rfl, rfl, rfl⟩
theorem fl_X11_249 : xFl RX11 249 10 10 (.int) false 0 0 := ⟨_, _, _, tyX11, rfl, in_X11, tyX11_ok, nmX11, by decide, by decide, Or.inl q1914, by decide +kernel, rfl, rfl, rfl, rfl⟩
theorem fl_X11_252 : xFl RX11 252 10 9 (.boolean) false 0 0 := ⟨_, _, _, tyX11, rfl, in_X11, tyX11_ok, nmX11, by decide, by decide, Or.inl q1913, by decide +kernel, rfl, rfl, rfl, rfl⟩
theorem fl_X11_272 : xFl RX11 272 10 11 (.int) false 0 0 := ⟨_, _, _, tyX11, rfl, in_X11, tyX11_ok, nmX11, by decide, by decide, Or.inl q1915, by decide +kernel, rfl, rfl, rfl, rfl⟩
theorem fl_X11_275 : xFl RX11 275 11 0 (.boolean) false 0 0 := ⟨_, _, _, tyX12, rfl, in_X12, tyX12_ok, nmX12, by decide, by decide, Or.inl q1695, by decide +kernel, rfl, rfl, rfl, rfl⟩
theorem fl_X11_278 : xFl RX11 278 11 7 (.array .int) true 3 123 := ⟨_, _, _, tyX12, rfl, in_X12, tyX12_ok, nmX12, by decide, by decide, Or.inl q1708, by decide +kernel, rfl, rfl, rfl, rfl⟩
theorem fl_X11_279 : xFl RX11 279 11 9 (.array .boolean) true 3 125 := ⟨_, _, _, tyX12, rfl, in_X12, tyX12_ok, nmX12, by decide, by decide, Or.inl q1712, by decide +kernel, rfl, rfl, rfl, rfl⟩
theorem fl_X11_282 : xFl RX11 282 11 8 (.array .int) true 3 124 := ⟨_, _, _, tyX12, rfl, in_X12, tyX12_ok, nmX12, by decide, by decide, Or.inl q1710, by decide +kernel, rfl, rfl, rfl, rfl⟩
theorem fl_X11_283 : xFl RX11 283 11 11 (.array .boolean) true 3 127 := ⟨_, _, _, tyX12, rfl, in_X12, tyX12_ok, nmX12, by decide, by decide, Or.inl q1716, by decide +kernel, rfl, rfl, rfl, rfl⟩
theorem fl_X11_286 : xFl RX11 286 11 10 (.array .int) true 3 126 := ⟨_, _, _, tyX12, rfl, in_X12, tyX12_ok, nmX12, by decide, by decide, Or.inl q1714, by decide +kernel, rfl, rfl, rfl, rfl⟩
theorem fl_X11_287 : xFl RX11 287 11 6 (.array .boolean) true 3 122 := ⟨_, _, _, tyX12, rfl, in_X12, tyX12_ok, nmX12, by decide, by decide, Or.inl q1706, by decide +kernel, rfl, rfl, rfl, rfl⟩
theorem fl_X11_290 : xFl RX11 290 11 5 (.array .int) true 3 121 := ⟨_, _, _, tyX12, rfl, in_X12, tyX12_ok, nmX12, by decide, by decide, Or.inl q1704, by decide +kernel, rfl, rfl, rfl, rfl⟩
theorem fl_X11_291 : xFl RX11 291 11 4 (.array (.array .byte)) true 3 120 := ⟨_, _, _, tyX12, rfl, in_X12, tyX12_ok, nmX12, by decide, by decide, Or.inl q1702, by decide +kernel, rfl, rfl, rfl, rfl⟩
theorem fl_X11_292 : xFl RX11 292 11 12 (.int) false 0 0 := ⟨_, _, _, tyX12, rfl, in_X12, tyX12_ok, nmX12, by decide, by decide, Or.inl q1718, by decide +kernel, rfl, rfl, rfl, rfl⟩
theorem fl_X11_295 : xFl RX11 295 11 13 (.array .int) false 2 61 := ⟨_, _, _, tyX12, rfl, in_X12, tyX12_ok, nmX12, by decide, by decide, Or.inl q1720, by decide +kernel, rfl, rfl, rfl, rfl⟩
theorem fl_X11_298 : xFl RX11 298 11 15 (.array .int) false 2 61 := ⟨_, _, _, tyX12, rfl, in_X12, tyX12_ok, nmX12, by decide, by decide, Or.inl q1724, by decide +kernel, rfl, rfl, rfl, rfl⟩
theorem fl_X11_301 : xFl RX11 301 11 16 (.array .long) false 2 62 := ⟨_, _, _, tyX12, rfl, in_X12, tyX12_ok, nmX12, by decide, by decide, Or.inl q1726, by decide +kernel, rfl, rfl, rfl, rfl⟩
theorem fl_X11_304 : xFl RX11 304 11 17 (.array .long) false 2 62 := ⟨_, _, _, tyX12, rfl, in_X12, tyX12_ok, nmX12, by decide, by decide, Or.inl q1728, by decide +kernel, rfl, rfl, rfl, rfl⟩
theorem fl_X11_307 : xFl RX11 307 11 14 (.array .int) false 2 61 := ⟨_, _, _, tyX12, rfl, in_X12, tyX12_ok, nmX12, by decide, by decide, Or.inl q1722, by decide +kernel, rfl, rfl, rfl, rfl⟩
theorem fl_X11_310 : xFl RX11 310 10 54 (.int) false 0 0 := ⟨_, _, _, tyX11, rfl, in_X11, tyX11_ok, nmX11, by decide, by decide, Or.inl q1958, by decide +kernel, rfl, rfl, rfl, rfl⟩
theorem fl_X11_320 : xFl RX11 320 11 31 (.array .int) true 3 142 := ⟨_, _, _, tyX12, rfl, in_X12, tyX12_ok, nmX12, by decide, by decide, Or.inl q1756, by decide +kernel, rfl, rfl, rfl, rfl⟩
theorem fl_X11_327 : xFl RX11 327 11 23 (.array .boolean) true 3 134 := ⟨_, _, _, tyX12, rfl, in_X12, tyX12_ok, nmX12, by decide, by decide, Or.inl q1740, by decide +kernel, rfl, rfl, rfl, rfl⟩
theorem fl_X11_330 : xFl RX11 330 11 24 (.array (.array .int)) true 3 136 := ⟨_, _, _, tyX12, rfl, in_X12, tyX12_ok, nmX12, by decide, by decide, Or.inl q1742, by decide +kernel, rfl, rfl, rfl, rfl⟩
theorem fl_X11_341 : xFl RX11 341 11 19 (.array .boolean) true 3 129 := ⟨_, _, _, tyX12, rfl, in_X12, tyX12_ok, nmX12, by decide, by decide, Or.inl q1732, by decide +kernel, rfl, rfl, rfl, rfl⟩
theorem fl_X11_344 : xFl RX11 344 11 37 (.array .int) true 3 147 := ⟨_, _, _, tyX12, rfl, in_X12, tyX12_ok, nmX12, by decide, by decide, Or.inl q1767, by decide +kernel, rfl, rfl, rfl, rfl⟩
theorem fl_X11_359 : xFl RX11 359 11 32 (.int) false 0 0 := ⟨_, _, _, tyX12, rfl, in_X12, tyX12_ok, nmX12, by decide, by decide, Or.inl q1757, by decide +kernel, rfl, rfl, rfl, rfl⟩
theorem fl_X11_365 : xFl RX11 365 11 25 (.array .int) true 3 137 := ⟨_, _, _, tyX12, rfl, in_X12, tyX12_ok, nmX12, by decide, by decide, Or.inl q1744, by decide +kernel, rfl, rfl, rfl, rfl⟩
theorem fl_X11_375 : xFl RX11 375 11 33 (.array .int) true 3 143 := ⟨_, _, _, tyX12, rfl, in_X12, tyX12_ok, nmX12, by decide, by decide, Or.inl q1759, by decide +kernel, rfl, rfl, rfl, rfl⟩
theorem fl_X11_378 : xFl RX11 378 11 34 (.array .int) true 3 144 := ⟨_, _, _, tyX12, rfl, in_X12, tyX12_ok, nmX12, by decide, by decide, Or.inl q1761, by decide +kernel, rfl, rfl, rfl, rfl⟩
theorem fl_X11_381 : xFl RX11 381 11 35 (.array .int) true 3 145 := ⟨_, _, _, tyX12, rfl, in_X12, tyX12_ok, nmX12, by decide, by decide, Or.inl q1763, by decide +kernel, rfl, rfl, rfl, rfl⟩
theorem fl_X11_384 : xFl RX11 384 11 36 (.array .int) true 3 146 := ⟨_, _, _, tyX12, rfl, in_X12, tyX12_ok, nmX12, by decide, by decide, Or.inl q1765, by decide +kernel, rfl, rfl, rfl, rfl⟩
theorem fl_X11_387 : xFl RX11 387 11 38 (.array .int) true 3 148 := ⟨_, _, _, tyX12, rfl, in_X12, tyX12_ok, nmX12, by decide, by decide, Or.inl q1769, by decide +kernel, rfl, rfl, rfl, rfl⟩
theorem fl_X11_390 : xFl RX11 390 11 39 (.array .int) true 3 149 := ⟨_, _, _, tyX12, rfl, in_X12, tyX12_ok, nmX12, by decide, by decide, Or.inl q1771, by decide +kernel, rfl, rfl, rfl, rfl⟩
theorem fl_X11_393 : xFl RX11 393 11 40 (.array .int) true 3 150 := ⟨_, _, _, tyX12, rfl, in_X12, tyX12_ok, nmX12, by decide, by decide, Or.inl q1773, by decide +kernel, rfl, rfl, rfl, rfl⟩
theorem fl_X11_396 : xFl RX11 396 10 55 (.long) false 1 0 := ⟨_, _, _, tyX11, rfl, in_X11, tyX11_ok, nmX11, by decide, by decide, Or.inl q1959, by decide +kernel, rfl, rfl, rfl, rfl⟩
theorem fl_X11_400 : xFl RX11 400 10 56 (.long) false 1 0 := ⟨_, _, _, tyX11, rfl, in_X11, tyX11_ok, nmX11, by decide, by decide, Or.inl q1960, by decide +kernel, rfl, rfl, rfl, rfl⟩
theorem fl_X11_407 : xFl RX11 407 11 45 (.array .int) false 2 61 := ⟨_, _, _, tyX12, rfl, in_X12, tyX12_ok, nmX12, by decide, by decide, Or.inl q1779, by decide +kernel, rfl, rfl, rfl, rfl⟩
theorem fl_X11_421 : xFl RX11 421 11 2 (.long) false 1 0 := ⟨_, _, _, tyX12, rfl, in_X12, tyX12_ok, nmX12, by decide, by decide, Or.inl q1698, by decide +kernel, rfl, rfl, rfl, rfl⟩
theorem fl_X11_506 : xFl RX11 506 11 18 (.array .int) true 3 128 := ⟨_, _, _, tyX12, rfl, in_X12, tyX12_ok, nmX12, by decide, by decide, Or.inl q1730, by decide +kernel, rfl, rfl, rfl, rfl⟩
theorem fl_X11_509 : xFl RX11 509 11 22 (.array .boolean) true 3 133 := ⟨_, _, _, tyX12, rfl, in_X12, tyX12_ok, nmX12, by decide, by decide, Or.inl q1738, by decide +kernel, rfl, rfl, rfl, rfl⟩
theorem fl_X11_512 : xFl RX11 512 11 20 (.array (.array .byte)) true 3 131 := ⟨_, _, _, tyX12, rfl, in_X12, tyX12_ok, nmX12, by decide, by decide, Or.inl q1734, by decide +kernel, rfl, rfl, rfl, rfl⟩
theorem fl_X11_513 : xFl RX11 513 11 21 (.array .int) true 3 132 := ⟨_, _, _, tyX12, rfl, in_X12, tyX12_ok, nmX12, by decide, by decide, Or.inl q1736, by decide +kernel, rfl, rfl, rfl, rfl⟩
theorem fl_X11_514 : xFl RX11 514 11 30 (.array .boolean) true 3 141 := ⟨_, _, _, tyX12, rfl, in_X12, tyX12_ok, nmX12, by decide, by decide, Or.inl q1754, by decide +kernel, rfl, rfl, rfl, rfl⟩
theorem fl_X11_517 : xFl RX11 517 11 29 (.array .int) true 3 140 := ⟨_, _, _, tyX12, rfl, in_X12, tyX12_ok, nmX12, by decide, by decide, Or.inl q1752, by decide +kernel, rfl, rfl, rfl, rfl⟩
theorem fl_X11_520 : xFl RX11 520 11 26 (.array .boolean) true 3 138 := ⟨_, _, _, tyX12, rfl, in_X12, tyX12_ok, nmX12, by decide, by decide, Or.inl q1746, by decide +kernel, rfl, rfl, rfl, rfl⟩
theorem fl_X11_523 : xFl RX11 523 11 3 (.int) false 0 0 := ⟨_, _, _, tyX12, rfl, in_X12, tyX12_ok, nmX12, by decide, by decide, Or.inl q1700, by decide +kernel, rfl, rfl, rfl, rfl⟩
theorem fl_X11_526 : xFl RX11 526 11 27 (.int) false 0 0 := ⟨_, _, _, tyX12, rfl, in_X12, tyX12_ok, nmX12, by decide, by decide, Or.inl q1748, by decide +kernel, rfl, rfl, rfl, rfl⟩
theorem fl_X11_529 : xFl RX11 529 11 28 (.array .int) true 3 139 := ⟨_, _, _, tyX12, rfl, in_X12, tyX12_ok, nmX12, by decide, by decide, Or.inl q1750, by decide +kernel, rfl, rfl, rfl, rfl⟩
theorem fl_X11_539 : xFl RX11 539 10 74 (.int) false 0 0 := ⟨_, _, _, tyX11, rfl, in_X11, tyX11_ok, nmX11, by decide, by decide, Or.inl q1978, by decide +kernel, rfl, rfl, rfl, rfl⟩
theorem fl_X11_542 : xFl RX11 542 10 75 (.int) false 0 0 := ⟨_, _, _, tyX11, rfl, in_X11, tyX11_ok, nmX11, by decide, by decide, Or.inl q1979, by decide +kernel, rfl, rfl, rfl, rfl⟩
theorem fl_X11_562 : xFl RX11 562 10 76 (.int) false 0 0 := ⟨_, _, _, tyX11, rfl, in_X11, tyX11_ok, nmX11, by decide, by decide, Or.inl q1980, by decide +kernel, rfl, rfl, rfl, rfl⟩
theorem fl_X11_569 : xFl RX11 569 10 77 (.int) false 0 0 := ⟨_, _, _, tyX11, rfl, in_X11, tyX11_ok, nmX11, by decide, by decide, Or.inl q1981, by decide +kernel, rfl, rfl, rfl, rfl⟩
theorem fl_X11_572 : xFl RX11 572 10 78 (.long) false 1 0 := ⟨_, _, _, tyX11, rfl, in_X11, tyX11_ok, nmX11, by decide, by decide, Or.inl q1982, by decide +kernel, rfl, rfl, rfl, rfl⟩
theorem fl_X11_575 : xFl RX11 575 10 79 (.long) false 1 0 := ⟨_, _, _, tyX11, rfl, in_X11, tyX11_ok, nmX11, by decide, by decide, Or.inl q1983, by decide +kernel, rfl, rfl, rfl, rfl⟩
theorem fl_X11_578 : xFl RX11 578 10 80 (.int) false 0 0 := ⟨_, _, _, tyX11, rfl, in_X11, tyX11_ok, nmX11, by decide, by decide, Or.inl q1984, by decide +kernel, rfl, rfl, rfl, rfl⟩
theorem fl_X11_602 : xFl RX11 602 10 47 (.int) false 0 0 := ⟨_, _, _, tyX11, rfl, in_X11, tyX11_ok, nmX11, by decide, by decide, Or.inl q1951, by decide +kernel, rfl, rfl, rfl, rfl⟩
theorem fl_X11_605 : xFl RX11 605 10 49 (.int) false 0 0 := ⟨_, _, _, tyX11, rfl, in_X11, tyX11_ok, nmX11, by decide, by decide, Or.inl q1953, by decide +kernel, rfl, rfl, rfl, rfl⟩
theorem fl_X11_680 : xFl RX11 680 10 51 (.int) false 0 0 := ⟨_, _, _, tyX11, rfl, in_X11, tyX11_ok, nmX11, by decide, by decide, Or.inl q1955, by decide +kernel, rfl, rfl, rfl, rfl⟩
theorem fl_X11_769 : xFl RX11 769 11 1 (.int) false 0 0 := ⟨_, _, _, tyX12, rfl, in_X12, tyX12_ok, nmX12, by decide, by decide, Or.inl q1697, by decide +kernel, rfl, rfl, rfl, rfl⟩
theorem fl_X11_772 : xFl RX11 772 10 17 (.long) false 1 0 := ⟨_, _, _, tyX11, rfl, in_X11, tyX11_ok, nmX11, by decide, by decide, Or.inl q1921, by decide +kernel, rfl, rfl, rfl, rfl⟩
theorem fl_X12_9 : xFl RX12 9 11 4 (.array (.array .byte)) true 3 120 := ⟨_, _, _, tyX12, rfl, in_X12, tyX12_ok, nmX12, by decide, by decide, Or.inl q1701, by decide +kernel, rfl, rfl, rfl, rfl⟩
theorem fl_X12_15 : xFl RX12 15 11 5 (.array .int) true 3 121 := ⟨_, _, _, tyX12, rfl, in_X12, tyX12_ok, nmX12, by decide, by decide, Or.inl q1703, by decide +kernel, rfl, rfl, rfl, rfl⟩
theorem fl_X12_19 : xFl RX12 19 11 6 (.array .boolean) true 3 122 := ⟨_, _, _, tyX12, rfl, in_X12, tyX12_ok, nmX12, by decide, by decide, Or.inl q1705, by decide +kernel, rfl, rfl, rfl, rfl⟩
theorem fl_X12_23 : xFl RX12 23 11 7 (.array .int) true 3 123 := ⟨_, _, _, tyX12, rfl, in_X12, tyX12_ok, nmX12, by decide, by decide, Or.inl q1707, by decide +kernel, rfl, rfl, rfl, rfl⟩
theorem fl_X12_26 : xFl RX12 26 11 8 (.array .int) true 3 124 := ⟨_, _, _, tyX12, rfl, in_X12, tyX12_ok, nmX12, by decide, by decide, Or.inl q1709, by decide +kernel, rfl, rfl, rfl, rfl⟩
theorem fl_X12_29 : xFl RX12 29 11 9 (.array .boolean) true 3 125 := ⟨_, _, _, tyX12, rfl, in_X12, tyX12_ok, nmX12, by decide, by decide, Or.inl q1711, by decide +kernel, rfl, rfl, rfl, rfl⟩
theorem fl_X12_32 : xFl RX12 32 11 10 (.array .int) true 3 126 := ⟨_, _, _, tyX12, rfl, in_X12, tyX12_ok, nmX12, by decide, by decide, Or.inl q1713, by decide +kernel, rfl, rfl, rfl, rfl⟩
theorem fl_X12_35 : xFl RX12 35 11 11 (.array .boolean) true 3 127 := ⟨_, _, _, tyX12, rfl, in_X12, tyX12_ok, nmX12, by decide, by decide, Or.inl q1715, by decide +kernel, rfl, rfl, rfl, rfl⟩
theorem fl_X12_38 : xFl RX12 38 11 13 (.array .int) false 2 61 := ⟨_, _, _, tyX12, rfl, in_X12, tyX12_ok, nmX12, by decide, by decide, Or.inl q1719, by decide +kernel, rfl, rfl, rfl, rfl⟩
theorem fl_X12_41 : xFl RX12 41 11 14 (.array .int) false 2 61 := ⟨_, _, _, tyX12, rfl, in_X12, tyX12_ok, nmX12, by decide, by decide, Or.inl q1721, by decide +kernel, rfl, rfl, rfl, rfl⟩
theorem fl_X12_44 : xFl RX12 44 11 15 (.array .int) false 2 61 := ⟨_, _, _, tyX12, rfl, in_X12, tyX12_ok, nmX12, by decide, by decide, Or.inl q1723, by decide +kernel, rfl, rfl, rfl, rfl⟩
theorem fl_X12_47 : xFl RX12 47 11 16 (.array .long) false 2 62 := ⟨_, _, _, tyX12, rfl, in_X12, tyX12_ok, nmX12, by decide, by decide, Or.inl q1725, by decide +kernel, rfl, rfl, rfl, rfl⟩
theorem fl_X12_51 : xFl RX12 51 11 17 (.array .long) false 2 62 := ⟨_, _, _, tyX12, rfl, in_X12, tyX12_ok, nmX12, by decide, by decide, Or.inl q1727, by decide +kernel, rfl, rfl, rfl, rfl⟩
theorem fl_X12_54 : xFl RX12 54 11 18 (.array .int) true 3 128 := ⟨_, _, _, tyX12, rfl, in_X12, tyX12_ok, nmX12, by decide, by decide, Or.inl q1729, by decide +kernel, rfl, rfl, rfl, rfl⟩
theorem fl_X12_57 : xFl RX12 57 11 19 (.array .boolean) true 3 129 := ⟨_, _, _, tyX12, rfl, in_X12, tyX12_ok, nmX12, by decide, by decide, Or.inl q1731, by decide +kernel, rfl, rfl, rfl, rfl⟩
theorem fl_X12_61 : xFl RX12 61 11 20 (.array (.array .byte)) true 3 131 := ⟨_, _, _, tyX12, rfl, in_X12, tyX12_ok, nmX12, by decide, by decide, Or.inl q1733, by decide +kernel, rfl, rfl, rfl, rfl⟩
theorem fl_X12_64 : xFl RX12 64 11 21 (.array .int) true 3 132 := ⟨_, _, _, tyX12, rfl, in_X12, tyX12_ok, nmX12, by decide, by decide, Or.inl q1735, by decide +kernel, rfl, rfl, rfl, rfl⟩
theorem fl_X12_67 : xFl RX12 67 11 22 (.array .boolean) true 3 133 := ⟨_, _, _, tyX12, rfl, in_X12, tyX12_ok, nmX12, by decide, by decide, Or.inl q1737, by decide +kernel, rfl, rfl, rfl, rfl⟩
theorem fl_X12_70 : xFl RX12 70 11 23 (.array .boolean) true 3 134 := ⟨_, _, _, tyX12, rfl, in_X12, tyX12_ok, nmX12, by decide, by decide, Or.inl q1739, by decide +kernel, rfl, rfl, rfl, rfl⟩
theorem fl_X12_75 : xFl RX12 75 11 24 (.array (.array .int)) true 3 136 := ⟨_, _, _, tyX12, rfl, in_X12, tyX12_ok, nmX12, by decide, by decide, Or.inl q1741, by decide +kernel, rfl, rfl, rfl, rfl⟩
theorem fl_X12_78 : xFl RX12 78 11 25 (.array .int) true 3 137 := ⟨_, _, _, tyX12, rfl, in_X12, tyX12_ok, nmX12, by decide, by decide, Or.inl q1743, by decide +kernel, rfl, rfl, rfl, rfl⟩
theorem fl_X12_81 : xFl RX12 81 11 26 (.array .boolean) true 3 138 := ⟨_, _, _, tyX12, rfl, in_X12, tyX12_ok, nmX12, by decide, by decide, Or.inl q1745, by decide +kernel, rfl, rfl, rfl, rfl⟩
theorem fl_X12_84 : xFl RX12 84 11 28 (.array .int) true 3 139 := ⟨_, _, _, tyX12, rfl, in_X12, tyX12_ok, nmX12, by decide, by decide, Or.inl q1749, by decide +kernel, rfl, rfl, rfl, rfl⟩
theorem fl_X12_87 : xFl RX12 87 11 29 (.array .int) true 3 140 := ⟨_, _, _, tyX12, rfl, in_X12, tyX12_ok, nmX12, by decide, by decide, Or.inl q1751, by decide +kernel, rfl, rfl, rfl, rfl⟩
theorem fl_X12_90 : xFl RX12 90 11 30 (.array .boolean) true 3 141 := ⟨_, _, _, tyX12, rfl, in_X12, tyX12_ok, nmX12, by decide, by decide, Or.inl q1753, by decide +kernel, rfl, rfl, rfl, rfl⟩
theorem fl_X12_93 : xFl RX12 93 11 31 (.array .int) true 3 142 := ⟨_, _, _, tyX12, rfl, in_X12, tyX12_ok, nmX12, by decide, by decide, Or.inl q1755, by decide +kernel, rfl, rfl, rfl, rfl⟩
theorem fl_X12_96 : xFl RX12 96 11 33 (.array .int) true 3 143 := ⟨_, _, _, tyX12, rfl, in_X12, tyX12_ok, nmX12, by decide, by decide, Or.inl q1758, by decide +kernel, rfl, rfl, rfl, rfl⟩
theorem fl_X12_99 : xFl RX12 99 11 34 (.array .int) true 3 144 := ⟨_, _, _, tyX12, rfl, in_X12, tyX12_ok, nmX12, by decide, by decide, Or.inl q1760, by decide +kernel, rfl, rfl, rfl, rfl⟩
theorem fl_X12_102 : xFl RX12 102 11 35 (.array .int) true 3 145 := ⟨_, _, _, tyX12, rfl, in_X12, tyX12_ok, nmX12, by decide, by decide, Or.inl q1762, by decide +kernel, rfl, rfl, rfl, rfl⟩
theorem fl_X12_105 : xFl RX12 105 11 36 (.array .int) true 3 146 := ⟨_, _, _, tyX12, rfl, in_X12, tyX12_ok, nmX12, by decide, by decide, Or.inl q1764, by decide +kernel, rfl, rfl, rfl, rfl⟩
theorem fl_X12_108 : xFl RX12 108 11 37 (.array .int) true 3 147 := ⟨_, _, _, tyX12, rfl, in_X12, tyX12_ok, nmX12, by decide, by decide, Or.inl q1766, by decide +kernel, rfl, rfl, rfl, rfl⟩
theorem fl_X12_111 : xFl RX12 111 11 38 (.array .int) true 3 148 := ⟨_, _, _, tyX12, rfl, in_X12, tyX12_ok, nmX12, by decide, by decide, Or.inl q1768, by decide +kernel, rfl, rfl, rfl, rfl⟩
theorem fl_X12_114 : xFl RX12 114 11 39 (.array .int) true 3 149 := ⟨_, _, _, tyX12, rfl, in_X12, tyX12_ok, nmX12, by decide, by decide, Or.inl q1770, by decide +kernel, rfl, rfl, rfl, rfl⟩
theorem fl_X12_117 : xFl RX12 117 11 40 (.array .int) true 3 150 := ⟨_, _, _, tyX12, rfl, in_X12, tyX12_ok, nmX12, by decide, by decide, Or.inl q1772, by decide +kernel, rfl, rfl, rfl, rfl⟩
theorem fl_X12_120 : xFl RX12 120 11 42 (.array .int) false 2 61 := ⟨_, _, _, tyX12, rfl, in_X12, tyX12_ok, nmX12, by decide, by decide, Or.inl q1775, by decide +kernel, rfl, rfl, rfl, rfl⟩
theorem fl_X12_123 : xFl RX12 123 11 43 (.array .long) false 2 62 := ⟨_, _, _, tyX12, rfl, in_X12, tyX12_ok, nmX12, by decide, by decide, Or.inl q1776, by decide +kernel, rfl, rfl, rfl, rfl⟩
theorem fl_X12_126 : xFl RX12 126 11 44 (.array .long) false 2 62 := ⟨_, _, _, tyX12, rfl, in_X12, tyX12_ok, nmX12, by decide, by decide, Or.inl q1777, by decide +kernel, rfl, rfl, rfl, rfl⟩
theorem fl_X12_129 : xFl RX12 129 11 45 (.array .int) false 2 61 := ⟨_, _, _, tyX12, rfl, in_X12, tyX12_ok, nmX12, by decide, by decide, Or.inl q1778, by decide +kernel, rfl, rfl, rfl, rfl⟩
theorem fl_X12_132 : xFl RX12 132 11 0 (.boolean) false 0 0 := ⟨_, _, _, tyX12, rfl, in_X12, tyX12_ok, nmX12, by decide, by decide, Or.inl q1694, by decide +kernel, rfl, rfl, rfl, rfl⟩
theorem fl_X12_136 : xFl RX12 136 11 1 (.int) false 0 0 := ⟨_, _, _, tyX12, rfl, in_X12, tyX12_ok, nmX12, by decide, by decide, Or.inl q1696, by decide +kernel, rfl, rfl, rfl, rfl⟩
theorem fl_X12_140 : xFl RX12 140 11 3 (.int) false 0 0 := ⟨_, _, _, tyX12, rfl, in_X12, tyX12_ok, nmX12, by decide, by decide, Or.inl q1699, by decide +kernel, rfl, rfl, rfl, rfl⟩
theorem fl_X12_143 : xFl RX12 143 11 12 (.int) false 0 0 := ⟨_, _, _, tyX12, rfl, in_X12, tyX12_ok, nmX12, by decide, by decide, Or.inl q1717, by decide +kernel, rfl, rfl, rfl, rfl⟩
theorem fl_X12_146 : xFl RX12 146 11 27 (.int) false 0 0 := ⟨_, _, _, tyX12, rfl, in_X12, tyX12_ok, nmX12, by decide, by decide, Or.inl q1747, by decide +kernel, rfl, rfl, rfl, rfl⟩
theorem fl_X12_149 : xFl RX12 149 11 41 (.int) false 0 0 := ⟨_, _, _, tyX12, rfl, in_X12, tyX12_ok, nmX12, by decide, by decide, Or.inl q1774, by decide +kernel, rfl, rfl, rfl, rfl⟩
theorem fl_X1_658 : xFl RX1 658 4 2 (.int) false 0 0 := ⟨_, _, _, tyX5, rfl, in_X5, tyX5_ok, nmX5, by decide, by decide, Or.inr ⟨_, List.mem_filter.mpr ⟨q364, rfl⟩⟩, by decide +kernel, rfl, rfl, rfl, rfl⟩
theorem fl_X5_26 : xFl RX5 26 0 11 (.array .byte) true 3 27 := ⟨_, _, _, tyX1, rfl, in_X1, tyX1_ok, nmX1, by decide, by decide, Or.inr ⟨_, List.mem_filter.mpr ⟨q748, rfl⟩⟩, by decide +kernel, rfl, rfl, rfl, rfl⟩
theorem fl_X5_64 : xFl RX5 64 0 5 (.array (.object "DeedKernel$Inode")) true 3 23 := ⟨_, _, _, tyX1, rfl, in_X1, tyX1_ok, nmX1, by decide, by decide, Or.inr ⟨_, List.mem_filter.mpr ⟨q741, rfl⟩⟩, by decide +kernel, rfl, rfl, rfl, rfl⟩
theorem fl_X5_71 : xFl RX5 71 0 19 (.object "DeedKernel$Process") false 2 9 := ⟨_, _, _, tyX1, rfl, in_X1, tyX1_ok, nmX1, by decide, by decide, Or.inr ⟨_, List.mem_filter.mpr ⟨q757, rfl⟩⟩, by decide +kernel, rfl, rfl, rfl, rfl⟩
theorem fl_X5_105 : xFl RX5 105 0 10 (.object "DeedKernel$Refused") true 3 3 := ⟨_, _, _, tyX1, rfl, in_X1, tyX1_ok, nmX1, by decide, by decide, Or.inr ⟨_, List.mem_filter.mpr ⟨q747, rfl⟩⟩, by decide +kernel, rfl, rfl, rfl, rfl⟩
theorem fl_X5_119 : xFl RX5 119 0 21 (.int) false 0 0 := ⟨_, _, _, tyX1, rfl, in_X1, tyX1_ok, nmX1, by decide, by decide, Or.inr ⟨_, List.mem_filter.mpr ⟨q760, rfl⟩⟩, by decide +kernel, rfl, rfl, rfl, rfl⟩
theorem mi_X1_3 : xMi RX1 3 mJ5_init 0 := ⟨⟨Or.inl q1563, q214, q1565, ⟨by decide, by decide⟩, by decide +kernel, by decide⟩, q1564, rfl, rfl, rfl⟩
theorem mi_X1_9 : xMi RX1 9 mJ6_init 0 := ⟨⟨Or.inl q1108, q215, q1110, ⟨by decide, by decide⟩, by decide +kernel, by decide⟩, q1109, rfl, rfl, rfl⟩
theorem mi_X1_12 : xMi RX1 12 mJ8_init_2 0 := ⟨⟨Or.inl q1630, q217, q1632, ⟨by decide, by decide⟩, by decide +kernel, by decide⟩, q1631, rfl, rfl, rfl⟩
theorem ms_X1_85 : xMs RX1 85 mX1_nearest 3 := ⟨⟨Or.inl q380, q196, q382, ⟨by decide, by decide⟩, by decide +kernel, by decide⟩, q381⟩
theorem mi_X1_89 : xMi RX1 89 mX6_init 3 := ⟨⟨Or.inl q383, q204, q385, ⟨by decide, by decide⟩, by decide +kernel, by decide⟩, q384, rfl, rfl, rfl⟩
theorem mi_X1_118 : xMi RX1 118 mX7_init 1 := ⟨⟨Or.inl q429, q206, q431, ⟨by decide, by decide⟩, by decide +kernel, by decide⟩, q430, rfl, rfl, rfl⟩
theorem mi_X1_123 : xMi RX1 123 mX10_init 1 := ⟨⟨Or.inl q604, q209, q606, ⟨by decide, by decide⟩, by decide +kernel, by decide⟩, q605, rfl, rfl, rfl⟩
theorem mv_X1_124 : xMv RX1 124 mX1_format 0 0 := ⟨⟨Or.inl q684, q196, q687, ⟨by decide, by decide⟩, by decide +kernel, by decide⟩, q685, q686, _, _, rfl, by decide⟩
theorem mv_X1_130 : xMv RX1 130 mX6_begin 1 5 := ⟨⟨Or.inl q688, q204, q691, ⟨by decide, by decide⟩, by decide +kernel, by decide⟩, q689, q690, _, _, rfl, by decide⟩
theorem mv_X1_134 : xMv RX1 134 mX2_begin 1 1 := ⟨⟨Or.inl q696, q197, q699, ⟨by decide, by decide⟩, by decide +kernel, by decide⟩, q697, q698, _, _, rfl, by decide⟩
theorem mv_X1_137 : xMv RX1 137 mX6_sum 4 5 := ⟨⟨Or.inl q700, q204, q703, ⟨by decide, by decide⟩, by decide +kernel, by decide⟩, q701, q702, _, _, rfl, by decide⟩
theorem mv_X1_141 : xMv RX1 141 mX2_end 1 1 := ⟨⟨Or.inl q708, q197, q711, ⟨by decide, by decide⟩, by decide +kernel, by decide⟩, q709, q710, _, _, rfl, by decide⟩
theorem mv_X1_145 : xMv RX1 145 mX6_head 0 5 := ⟨⟨Or.inl q712, q204, q715, ⟨by decide, by decide⟩, by decide +kernel, by decide⟩, q713, q714, _, _, rfl, by decide⟩
theorem cp_X1_148 : xCp RX1 148 := ⟨q716, q718, q717, q211⟩
theorem mv_X1_179 : xMv RX1 179 mX1_forget 0 0 := ⟨⟨Or.inl q719, q196, q722, ⟨by decide, by decide⟩, by decide +kernel, by decide⟩, q721, qs1, _, _, rfl, by decide⟩
theorem mv_X1_198 : xMv RX1 198 mX7_clear 0 6 := ⟨⟨Or.inl q723, q206, q726, ⟨by decide, by decide⟩, by decide +kernel, by decide⟩, q724, q725, _, _, rfl, by decide⟩
theorem mv_X1_201 : xMv RX1 201 mX10_clear 0 9 := ⟨⟨Or.inl q727, q209, q730, ⟨by decide, by decide⟩, by decide +kernel, by decide⟩, q728, q729, _, _, rfl, by decide⟩
theorem ms_X1_211 : xMs RX1 211 mX1_isIn 3 := ⟨⟨Or.inl q825, q196, q827, ⟨by decide, by decide⟩, by decide +kernel, by decide⟩, q826⟩
theorem ms_X1_215 : xMs RX1 215 mX1_want 1 := ⟨⟨Or.inl q1551, q196, q1553, ⟨by decide, by decide⟩, by decide +kernel, by decide⟩, q1552⟩
theorem ms_X1_220 : xMs RX1 220 mX1_must 1 := ⟨⟨Or.inl q1569, q196, q1571, ⟨by decide, by decide⟩, by decide +kernel, by decide⟩, q1570⟩
theorem mv_X1_223 : xMv RX1 223 mX10_acts 0 9 := ⟨⟨Or.inl q971, q209, q974, ⟨by decide, by decide⟩, by decide +kernel, by decide⟩, q972, q973, _, _, rfl, by decide⟩
theorem mv_X1_227 : xMv RX1 227 mX10_has 1 9 := ⟨⟨Or.inl q979, q209, q982, ⟨by decide, by decide⟩, by decide +kernel, by decide⟩, q980, q981, _, _, rfl, by decide⟩
theorem mv_X1_231 : xMv RX1 231 mX10_hasGroup 0 9 := ⟨⟨Or.inl q856, q209, q859, ⟨by decide, by decide⟩, by decide +kernel, by decide⟩, q857, q858, _, _, rfl, by decide⟩
theorem mv_X1_234 : xMv RX1 234 mX10_hadIt 1 9 := ⟨⟨Or.inl q983, q209, q986, ⟨by decide, by decide⟩, by decide +kernel, by decide⟩, q984, q985, _, _, rfl, by decide⟩
theorem mv_X1_237 : xMv RX1 237 mX8_isPipe 0 7 := ⟨⟨Or.inl q995, q207, q998, ⟨by decide, by decide⟩, by decide +kernel, by decide⟩, q996, q997, _, _, rfl, by decide⟩
theorem mv_X1_243 : xMv RX1 243 mX1_isThere 1 0 := ⟨⟨Or.inl q975, q196, q978, ⟨by decide, by decide⟩, by decide +kernel, by decide⟩, q977, qs21, _, _, rfl, by decide⟩
theorem mv_X1_264 : xMv RX1 264 mX1_isUsed 1 0 := ⟨⟨Or.inl q967, q196, q970, ⟨by decide, by decide⟩, by decide +kernel, by decide⟩, q969, qs20, _, _, rfl, by decide⟩
theorem mv_X1_268 : xMv RX1 268 mX3_drop 2 2 := ⟨⟨Or.inl q987, q198, q990, ⟨by decide, by decide⟩, by decide +kernel, by decide⟩, q988, q989, _, _, rfl, by decide⟩
theorem mv_X1_272 : xMv RX1 272 mX1_hasPipe 1 0 := ⟨⟨Or.inl q991, q196, q994, ⟨by decide, by decide⟩, by decide +kernel, by decide⟩, q993, qs22, _, _, rfl, by decide⟩
theorem mv_X1_276 : xMv RX1 276 mX3_sweep 0 2 := ⟨⟨Or.inl q999, q198, q957, ⟨by decide, by decide⟩, by decide +kernel, by decide⟩, q955, q956, _, _, rfl, by decide⟩
theorem mv_X1_306 : xMv RX1 306 mX1_opening 1 0 := ⟨⟨Or.inl q937, q196, q940, ⟨by decide, by decide⟩, by decide +kernel, by decide⟩, q939, qs18, _, _, rfl, by decide⟩
theorem mv_X1_316 : xMv RX1 316 mX9_save 0 8 := ⟨⟨Or.inl q1017, q208, q1020, ⟨by decide, by decide⟩, by decide +kernel, by decide⟩, q1018, q1019, _, _, rfl, by decide⟩
theorem mv_X1_325 : xMv RX1 325 mX9_undo 0 8 := ⟨⟨Or.inl q941, q208, q944, ⟨by decide, by decide⟩, by decide +kernel, by decide⟩, q942, q943, _, _, rfl, by decide⟩
theorem mv_X1_335 : xMv RX1 335 mX1_restore 2 0 := ⟨⟨Or.inl q933, q196, q936, ⟨by decide, by decide⟩, by decide +kernel, by decide⟩, q935, qs17, _, _, rfl, by decide⟩
theorem mv_X1_338 : xMv RX1 338 mX7_undoSlots 1 6 := ⟨⟨Or.inl q946, q206, q949, ⟨by decide, by decide⟩, by decide +kernel, by decide⟩, q947, q948, _, _, rfl, by decide⟩
theorem mv_X1_344 : xMv RX1 344 mX3_end 1 2 := ⟨⟨Or.inl q950, q198, q953, ⟨by decide, by decide⟩, by decide +kernel, by decide⟩, q951, q952, _, _, rfl, by decide⟩
theorem mv_X1_349 : xMv RX1 349 mX1_undo 1 0 := ⟨⟨Or.inl q929, q196, q932, ⟨by decide, by decide⟩, by decide +kernel, by decide⟩, q931, qs16, _, _, rfl, by decide⟩
theorem mv_X1_351 : xMv RX1 351 mX10_undo 0 9 := ⟨⟨Or.inl q958, q209, q961, ⟨by decide, by decide⟩, by decide +kernel, by decide⟩, q959, q960, _, _, rfl, by decide⟩
theorem mv_X1_352 : xMv RX1 352 mX1_sweep 0 0 := ⟨⟨Or.inl q963, q196, q966, ⟨by decide, by decide⟩, by decide +kernel, by decide⟩, q965, qs19, _, _, rfl, by decide⟩
theorem mv_X1_353 : xMv RX1 353 mX1_abort 1 0 := ⟨⟨Or.inl q925, q196, q928, ⟨by decide, by decide⟩, by decide +kernel, by decide⟩, q927, qs15, _, _, rfl, by decide⟩
theorem mv_X1_360 : xMv RX1 360 mX3_met 6 2 := ⟨⟨Or.inl q913, q198, q916, ⟨by decide, by decide⟩, by decide +kernel, by decide⟩, q914, q915, _, _, rfl, by decide⟩
theorem mv_X1_364 : xMv RX1 364 mX4_by 1 3 := ⟨⟨Or.inl q876, q202, q879, ⟨by decide, by decide⟩, by decide +kernel, by decide⟩, q877, q878, _, _, rfl, by decide⟩
theorem mv_X1_375 : xMv RX1 375 mX1_abortAll 1 0 := ⟨⟨Or.inl q921, q196, q924, ⟨by decide, by decide⟩, by decide +kernel, by decide⟩, q923, qs14, _, _, rfl, by decide⟩
theorem mv_X1_378 : xMv RX1 378 mX3_find 4 2 := ⟨⟨Or.inl q1000, q198, q1003, ⟨by decide, by decide⟩, by decide +kernel, by decide⟩, q1001, q1002, _, _, rfl, by decide⟩
theorem mv_X1_385 : xMv RX1 385 mX1_save 2 0 := ⟨⟨Or.inl q1013, q196, q1016, ⟨by decide, by decide⟩, by decide +kernel, by decide⟩, q1015, qs25, _, _, rfl, by decide⟩
theorem mv_X1_387 : xMv RX1 387 mX1_access 5 0 := ⟨⟨Or.inl q909, q196, q912, ⟨by decide, by decide⟩, by decide +kernel, by decide⟩, q911, qs12, _, _, rfl, by decide⟩
theorem mv_X1_391 : xMv RX1 391 mX6_isData 1 5 := ⟨⟨Or.inl q1277, q204, q1280, ⟨by decide, by decide⟩, by decide +kernel, by decide⟩, q1278, q1279, _, _, rfl, by decide⟩
theorem mv_X1_400 : xMv RX1 400 mX6_firstData 0 5 := ⟨⟨Or.inl q1305, q204, q1284, ⟨by decide, by decide⟩, by decide +kernel, by decide⟩, q1282, q1283, _, _, rfl, by decide⟩
theorem mv_X1_403 : xMv RX1 403 mX7_isDirectory 0 6 := ⟨⟨Or.inl q1082, q206, q903, ⟨by decide, by decide⟩, by decide +kernel, by decide⟩, q901, q902, _, _, rfl, by decide⟩
theorem mv_X1_406 : xMv RX1 406 mX7_hasSlotsOf 1 6 := ⟨⟨Or.inl q1289, q206, q1292, ⟨by decide, by decide⟩, by decide +kernel, by decide⟩, q1290, q1291, _, _, rfl, by decide⟩
theorem mv_X1_421 : xMv RX1 421 mX7_keptBy 2 6 := ⟨⟨Or.inl q1293, q206, q1296, ⟨by decide, by decide⟩, by decide +kernel, by decide⟩, q1294, q1295, _, _, rfl, by decide⟩
theorem ms_X1_425 : xMs RX1 425 mJ3_max 2 := ⟨⟨Or.inl q1140, q205, q1142, ⟨by decide, by decide⟩, by decide +kernel, by decide⟩, q1141⟩
theorem mv_X1_442 : xMv RX1 442 mX1_lay 1 0 := ⟨⟨Or.inl q1297, q196, q1300, ⟨by decide, by decide⟩, by decide +kernel, by decide⟩, q1299, qs64, _, _, rfl, by decide⟩
theorem mv_X1_445 : xMv RX1 445 mX1_takeBlock 0 0 := ⟨⟨Or.inl q1301, q196, q1304, ⟨by decide, by decide⟩, by decide +kernel, by decide⟩, q1303, qs65, _, _, rfl, by decide⟩
theorem mv_X1_449 : xMv RX1 449 mX6_put 3 5 := ⟨⟨Or.inl q1310, q204, q695, ⟨by decide, by decide⟩, by decide +kernel, by decide⟩, q693, q694, _, _, rfl, by decide⟩
theorem mv_X1_453 : xMv RX1 453 mX1_drawSlots 3 0 := ⟨⟨Or.inl q1311, q196, q1314, ⟨by decide, by decide⟩, by decide +kernel, by decide⟩, q1313, qs67, _, _, rfl, by decide⟩
theorem mv_X1_460 : xMv RX1 460 mX3_hasTree 1 2 := ⟨⟨Or.inl q1269, q198, q1272, ⟨by decide, by decide⟩, by decide +kernel, by decide⟩, q1270, q1271, _, _, rfl, by decide⟩
theorem mv_X1_463 : xMv RX1 463 mX1_markTaken 0 0 := ⟨⟨Or.inl q1273, q196, q1276, ⟨by decide, by decide⟩, by decide +kernel, by decide⟩, q1275, qs62, _, _, rfl, by decide⟩
theorem mv_X1_466 : xMv RX1 466 mX1_plan 2 0 := ⟨⟨Or.inl q1285, q196, q1288, ⟨by decide, by decide⟩, by decide +kernel, by decide⟩, q1287, qs63, _, _, rfl, by decide⟩
theorem mv_X1_470 : xMv RX1 470 mX1_draw 2 0 := ⟨⟨Or.inl q1306, q196, q1309, ⟨by decide, by decide⟩, by decide +kernel, by decide⟩, q1308, qs66, _, _, rfl, by decide⟩
theorem mv_X1_474 : xMv RX1 474 mX1_isOther 1 0 := ⟨⟨Or.inl q1315, q196, q1318, ⟨by decide, by decide⟩, by decide +kernel, by decide⟩, q1317, qs68, _, _, rfl, by decide⟩
theorem mv_X1_480 : xMv RX1 480 mX1_writeAll 1 0 := ⟨⟨Or.inl q1319, q196, q1322, ⟨by decide, by decide⟩, by decide +kernel, by decide⟩, q1321, qs69, _, _, rfl, by decide⟩
theorem mv_X1_483 : xMv RX1 483 mX1_keep 2 0 := ⟨⟨Or.inl q1336, q196, q1339, ⟨by decide, by decide⟩, by decide +kernel, by decide⟩, q1338, qs71, _, _, rfl, by decide⟩
theorem mv_X1_486 : xMv RX1 486 mX2_add 1 1 := ⟨⟨Or.inl q1323, q197, q1326, ⟨by decide, by decide⟩, by decide +kernel, by decide⟩, q1324, q1325, _, _, rfl, by decide⟩
theorem mv_X1_489 : xMv RX1 489 mX6_write 3 5 := ⟨⟨Or.inl q1327, q204, q1330, ⟨by decide, by decide⟩, by decide +kernel, by decide⟩, q1328, q1329, _, _, rfl, by decide⟩
theorem mv_X1_493 : xMv RX1 493 mX1_clearHead 0 0 := ⟨⟨Or.inl q1332, q196, q1335, ⟨by decide, by decide⟩, by decide +kernel, by decide⟩, q1334, qs70, _, _, rfl, by decide⟩
theorem mv_X1_496 : xMv RX1 496 mX7_keepSlots 1 6 := ⟨⟨Or.inl q1340, q206, q1343, ⟨by decide, by decide⟩, by decide +kernel, by decide⟩, q1341, q1342, _, _, rfl, by decide⟩
theorem mv_X1_499 : xMv RX1 499 mX1_isGood 4 0 := ⟨⟨Or.inl q828, q196, q831, ⟨by decide, by decide⟩, by decide +kernel, by decide⟩, q830, qs3, _, _, rfl, by decide⟩
theorem mv_X1_506 : xMv RX1 506 mX1_run 4 0 := ⟨⟨Or.inl q860, q196, q863, ⟨by decide, by decide⟩, by decide +kernel, by decide⟩, q862, qs6, _, _, rfl, by decide⟩
theorem mv_X1_510 : xMv RX1 510 mX1_finishCall 1 0 := ⟨⟨Or.inl q1361, q196, q1364, ⟨by decide, by decide⟩, by decide +kernel, by decide⟩, q1363, qs76, _, _, rfl, by decide⟩
theorem mv_X1_517 : xMv RX1 517 mX5_read 2 4 := ⟨⟨Or.inl q832, q203, q835, ⟨by decide, by decide⟩, by decide +kernel, by decide⟩, q833, q834, _, _, rfl, by decide⟩
theorem mv_X1_520 : xMv RX1 520 mX5_hasLast 0 4 := ⟨⟨Or.inl q840, q203, q843, ⟨by decide, by decide⟩, by decide +kernel, by decide⟩, q841, q842, _, _, rfl, by decide⟩
theorem mv_X1_523 : xMv RX1 523 mX1_areTwo 1 0 := ⟨⟨Or.inl q852, q196, q855, ⟨by decide, by decide⟩, by decide +kernel, by decide⟩, q854, qs5, _, _, rfl, by decide⟩
theorem mv_X1_526 : xMv RX1 526 mX1_doOpen 1 0 := ⟨⟨Or.inl q864, q196, q867, ⟨by decide, by decide⟩, by decide +kernel, by decide⟩, q866, qs7, _, _, rfl, by decide⟩
theorem mv_X1_529 : xMv RX1 529 mX1_doClose 1 0 := ⟨⟨Or.inl q1114, q196, q1117, ⟨by decide, by decide⟩, by decide +kernel, by decide⟩, q1116, qs31, _, _, rfl, by decide⟩
theorem mv_X1_532 : xMv RX1 532 mX1_doRead 2 0 := ⟨⟨Or.inl q1122, q196, q1125, ⟨by decide, by decide⟩, by decide +kernel, by decide⟩, q1124, qs33, _, _, rfl, by decide⟩
theorem mv_X1_535 : xMv RX1 535 mX1_doWrite 2 0 := ⟨⟨Or.inl q1143, q196, q1146, ⟨by decide, by decide⟩, by decide +kernel, by decide⟩, q1145, qs36, _, _, rfl, by decide⟩
theorem mv_X1_538 : xMv RX1 538 mX1_doSeek 2 0 := ⟨⟨Or.inl q1147, q196, q1150, ⟨by decide, by decide⟩, by decide +kernel, by decide⟩, q1149, qs37, _, _, rfl, by decide⟩
theorem mv_X1_541 : xMv RX1 541 mX1_doCut 2 0 := ⟨⟨Or.inl q1151, q196, q1154, ⟨by decide, by decide⟩, by decide +kernel, by decide⟩, q1153, qs38, _, _, rfl, by decide⟩
theorem mv_X1_544 : xMv RX1 544 mX1_has 1 0 := ⟨⟨Or.inl q1118, q196, q1121, ⟨by decide, by decide⟩, by decide +kernel, by decide⟩, q1120, qs32, _, _, rfl, by decide⟩
theorem mv_X1_546 : xMv RX1 546 mX1_freeDescriptor 1 0 := ⟨⟨Or.inl q868, q196, q871, ⟨by decide, by decide⟩, by decide +kernel, by decide⟩, q870, qs8, _, _, rfl, by decide⟩
theorem mv_X1_549 : xMv RX1 549 mX1_doPipe 0 0 := ⟨⟨Or.inl q1155, q196, q1158, ⟨by decide, by decide⟩, by decide +kernel, by decide⟩, q1157, qs39, _, _, rfl, by decide⟩
theorem mv_X1_552 : xMv RX1 552 mX1_doMake 0 0 := ⟨⟨Or.inl q1159, q196, q1162, ⟨by decide, by decide⟩, by decide +kernel, by decide⟩, q1161, qs40, _, _, rfl, by decide⟩
theorem mv_X1_555 : xMv RX1 555 mX1_doUnlink 0 0 := ⟨⟨Or.inl q1163, q196, q1166, ⟨by decide, by decide⟩, by decide +kernel, by decide⟩, q1165, qs41, _, _, rfl, by decide⟩
theorem mv_X1_558 : xMv RX1 558 mX1_doRemove 0 0 := ⟨⟨Or.inl q1181, q196, q1184, ⟨by decide, by decide⟩, by decide +kernel, by decide⟩, q1183, qs44, _, _, rfl, by decide⟩
theorem mv_X1_561 : xMv RX1 561 mX1_doLink 0 0 := ⟨⟨Or.inl q1193, q196, q1196, ⟨by decide, by decide⟩, by decide +kernel, by decide⟩, q1195, qs46, _, _, rfl, by decide⟩
theorem mv_X1_564 : xMv RX1 564 mX1_doRename 0 0 := ⟨⟨Or.inl q1200, q196, q1203, ⟨by decide, by decide⟩, by decide +kernel, by decide⟩, q1202, qs47, _, _, rfl, by decide⟩
theorem mv_X1_567 : xMv RX1 567 mX1_doLook 1 0 := ⟨⟨Or.inl q1209, q196, q1212, ⟨by decide, by decide⟩, by decide +kernel, by decide⟩, q1211, qs49, _, _, rfl, by decide⟩
theorem mv_X1_570 : xMv RX1 570 mX1_doList 0 0 := ⟨⟨Or.inl q1213, q196, q1216, ⟨by decide, by decide⟩, by decide +kernel, by decide⟩, q1215, qs50, _, _, rfl, by decide⟩
theorem mv_X1_573 : xMv RX1 573 mX5_find 0 4 := ⟨⟨Or.inl q884, q203, q887, ⟨by decide, by decide⟩, by decide +kernel, by decide⟩, q885, q886, _, _, rfl, by decide⟩
theorem mv_X1_576 : xMv RX1 576 mX1_doFork 0 0 := ⟨⟨Or.inl q1225, q196, q1228, ⟨by decide, by decide⟩, by decide +kernel, by decide⟩, q1227, qs53, _, _, rfl, by decide⟩
theorem mv_X1_579 : xMv RX1 579 mX1_doExit 1 0 := ⟨⟨Or.inl q1229, q196, q1232, ⟨by decide, by decide⟩, by decide +kernel, by decide⟩, q1231, qs54, _, _, rfl, by decide⟩
theorem mv_X1_582 : xMv RX1 582 mX1_doAwait 0 0 := ⟨⟨Or.inl q1241, q196, q1244, ⟨by decide, by decide⟩, by decide +kernel, by decide⟩, q1243, qs57, _, _, rfl, by decide⟩
theorem mv_X1_585 : xMv RX1 585 mX1_doKill 2 0 := ⟨⟨Or.inl q1245, q196, q1248, ⟨by decide, by decide⟩, by decide +kernel, by decide⟩, q1247, qs58, _, _, rfl, by decide⟩
theorem mv_X1_588 : xMv RX1 588 mX1_writes 2 0 := ⟨⟨Or.inl q1083, q196, q1086, ⟨by decide, by decide⟩, by decide +kernel, by decide⟩, q1085, qs27, _, _, rfl, by decide⟩
theorem mv_X1_590 : xMv RX1 590 mX1_doBegin 0 0 := ⟨⟨Or.inl q1253, q196, q1256, ⟨by decide, by decide⟩, by decide +kernel, by decide⟩, q1255, qs59, _, _, rfl, by decide⟩
theorem mv_X1_593 : xMv RX1 593 mX1_doEnd 0 0 := ⟨⟨Or.inl q1261, q196, q1264, ⟨by decide, by decide⟩, by decide +kernel, by decide⟩, q1263, qs60, _, _, rfl, by decide⟩
theorem mv_X1_599 : xMv RX1 599 mX10_many 0 9 := ⟨⟨Or.inl q872, q209, q875, ⟨by decide, by decide⟩, by decide +kernel, by decide⟩, q873, q874, _, _, rfl, by decide⟩
theorem mv_X1_601 : xMv RX1 601 mX10_free 0 9 := ⟨⟨Or.inl q880, q209, q883, ⟨by decide, by decide⟩, by decide +kernel, by decide⟩, q881, q882, _, _, rfl, by decide⟩
theorem mv_X1_604 : xMv RX1 604 mX1_freeOpening 0 0 := ⟨⟨Or.inl q1095, q196, q1098, ⟨by decide, by decide⟩, by decide +kernel, by decide⟩, q1097, qs30, _, _, rfl, by decide⟩
theorem mv_X1_616 : xMv RX1 616 mX5_last 0 4 := ⟨⟨Or.inl q1042, q203, q1045, ⟨by decide, by decide⟩, by decide +kernel, by decide⟩, q1043, q1044, _, _, rfl, by decide⟩
theorem mv_X1_619 : xMv RX1 619 mX5_lastEntry 1 4 := ⟨⟨Or.inl q1046, q203, q1049, ⟨by decide, by decide⟩, by decide +kernel, by decide⟩, q1047, q1048, _, _, rfl, by decide⟩
theorem mv_X1_623 : xMv RX1 623 mX5_make 2 4 := ⟨⟨Or.inl q1050, q203, q1053, ⟨by decide, by decide⟩, by decide +kernel, by decide⟩, q1051, q1052, _, _, rfl, by decide⟩
theorem mv_X1_627 : xMv RX1 627 mX1_setLength 2 0 := ⟨⟨Or.inl q1087, q196, q1090, ⟨by decide, by decide⟩, by decide +kernel, by decide⟩, q1089, qs28, _, _, rfl, by decide⟩
theorem mv_X1_630 : xMv RX1 630 mX1_newOpening 1 0 := ⟨⟨Or.inl q1091, q196, q1094, ⟨by decide, by decide⟩, by decide +kernel, by decide⟩, q1093, qs29, _, _, rfl, by decide⟩
theorem mv_X1_633 : xMv RX1 633 mX1_hasSide 2 0 := ⟨⟨Or.inl q1126, q196, q1129, ⟨by decide, by decide⟩, by decide +kernel, by decide⟩, q1128, qs34, _, _, rfl, by decide⟩
theorem ms_X1_636 : xMs RX1 636 mJ3_min 2 := ⟨⟨Or.inl q1130, q205, q389, ⟨by decide, by decide⟩, by decide +kernel, by decide⟩, q388⟩
theorem mv_X1_643 : xMv RX1 643 mX9_take 1 8 := ⟨⟨Or.inl q1131, q208, q1134, ⟨by decide, by decide⟩, by decide +kernel, by decide⟩, q1132, q1133, _, _, rfl, by decide⟩
theorem mv_X1_646 : xMv RX1 646 mX1_numberOf 1 0 := ⟨⟨Or.inl q1135, q196, q1138, ⟨by decide, by decide⟩, by decide +kernel, by decide⟩, q1137, qs35, _, _, rfl, by decide⟩
theorem mv_X1_650 : xMv RX1 650 mX1_reads 2 0 := ⟨⟨Or.inl q1139, q196, q908, ⟨by decide, by decide⟩, by decide +kernel, by decide⟩, q907, qs11, _, _, rfl, by decide⟩
theorem mv_X1_652 : xMv RX1 652 mX5_lastSlot 1 4 := ⟨⟨Or.inl q1172, q203, q1175, ⟨by decide, by decide⟩, by decide +kernel, by decide⟩, q1173, q1174, _, _, rfl, by decide⟩
theorem mv_X1_656 : xMv RX1 656 mX7_put 3 6 := ⟨⟨Or.inl q1176, q206, q1081, ⟨by decide, by decide⟩, by decide +kernel, by decide⟩, q1079, q1080, _, _, rfl, by decide⟩
theorem mv_X1_661 : xMv RX1 661 mX5_access 3 4 := ⟨⟨Or.inl q1167, q203, q1024, ⟨by decide, by decide⟩, by decide +kernel, by decide⟩, q1022, q1023, _, _, rfl, by decide⟩
theorem mv_X1_664 : xMv RX1 664 mX1_drop 2 0 := ⟨⟨Or.inl q1168, q196, q1171, ⟨by decide, by decide⟩, by decide +kernel, by decide⟩, q1170, qs42, _, _, rfl, by decide⟩
theorem mv_X1_667 : xMv RX1 667 mX1_dropName 1 0 := ⟨⟨Or.inl q1177, q196, q1180, ⟨by decide, by decide⟩, by decide +kernel, by decide⟩, q1179, qs43, _, _, rfl, by decide⟩
theorem mv_X1_671 : xMv RX1 671 mX7_entries 0 6 := ⟨⟨Or.inl q1185, q206, q1188, ⟨by decide, by decide⟩, by decide +kernel, by decide⟩, q1186, q1187, _, _, rfl, by decide⟩
theorem mv_X1_674 : xMv RX1 674 mX1_dropDirectory 1 0 := ⟨⟨Or.inl q1189, q196, q1192, ⟨by decide, by decide⟩, by decide +kernel, by decide⟩, q1191, qs45, _, _, rfl, by decide⟩
theorem mv_X1_677 : xMv RX1 677 mX7_namesFor 1 6 := ⟨⟨Or.inl q1197, q206, q1061, ⟨by decide, by decide⟩, by decide +kernel, by decide⟩, q1059, q1060, _, _, rfl, by decide⟩
theorem mv_X1_680 : xMv RX1 680 mX5_take 1 4 := ⟨⟨Or.inl q1198, q203, q1057, ⟨by decide, by decide⟩, by decide +kernel, by decide⟩, q1055, q1056, _, _, rfl, by decide⟩
theorem mv_X1_682 : xMv RX1 682 mX5_put 3 4 := ⟨⟨Or.inl q1199, q203, q1073, ⟨by decide, by decide⟩, by decide +kernel, by decide⟩, q1071, q1072, _, _, rfl, by decide⟩
theorem mv_X1_685 : xMv RX1 685 mX1_lookUp 2 0 := ⟨⟨Or.inl q1204, q196, q1207, ⟨by decide, by decide⟩, by decide +kernel, by decide⟩, q1206, qs48, _, _, rfl, by decide⟩
theorem mv_X1_689 : xMv RX1 689 mX7_freeSlot 0 6 := ⟨⟨Or.inl q1208, q206, q1065, ⟨by decide, by decide⟩, by decide +kernel, by decide⟩, q1063, q1064, _, _, rfl, by decide⟩
theorem mv_X1_692 : xMv RX1 692 mX1_behind 2 0 := ⟨⟨Or.inl q1217, q196, q1220, ⟨by decide, by decide⟩, by decide +kernel, by decide⟩, q1219, qs51, _, _, rfl, by decide⟩
theorem mv_X1_699 : xMv RX1 699 mX1_isBefore 3 0 := ⟨⟨Or.inl q1221, q196, q1224, ⟨by decide, by decide⟩, by decide +kernel, by decide⟩, q1223, qs52, _, _, rfl, by decide⟩
theorem mv_X1_709 : xMv RX1 709 mX1_meetEnd 1 0 := ⟨⟨Or.inl q1233, q196, q1236, ⟨by decide, by decide⟩, by decide +kernel, by decide⟩, q1235, qs55, _, _, rfl, by decide⟩
theorem mv_X1_712 : xMv RX1 712 mX1_end 2 0 := ⟨⟨Or.inl q1237, q196, q1240, ⟨by decide, by decide⟩, by decide +kernel, by decide⟩, q1239, qs56, _, _, rfl, by decide⟩
theorem mv_X1_724 : xMv RX1 724 mX10_kill 1 9 := ⟨⟨Or.inl q1249, q209, q1252, ⟨by decide, by decide⟩, by decide +kernel, by decide⟩, q1250, q1251, _, _, rfl, by decide⟩
theorem mv_X1_727 : xMv RX1 727 mX10_beginGroup 1 9 := ⟨⟨Or.inl q1257, q209, q1260, ⟨by decide, by decide⟩, by decide +kernel, by decide⟩, q1258, q1259, _, _, rfl, by decide⟩
theorem mv_X1_730 : xMv RX1 730 mX1_finishDisk 1 0 := ⟨⟨Or.inl q1265, q196, q1268, ⟨by decide, by decide⟩, by decide +kernel, by decide⟩, q1267, qs61, _, _, rfl, by decide⟩
theorem mv_X1_733 : xMv RX1 733 mX1_finishRest 0 0 := ⟨⟨Or.inl q1344, q196, q1347, ⟨by decide, by decide⟩, by decide +kernel, by decide⟩, q1346, qs72, _, _, rfl, by decide⟩
theorem mv_X1_736 : xMv RX1 736 mX1_clearMarks 1 0 := ⟨⟨Or.inl q1348, q196, q1351, ⟨by decide, by decide⟩, by decide +kernel, by decide⟩, q1350, qs73, _, _, rfl, by decide⟩
theorem mv_X1_745 : xMv RX1 745 mX10_endGroup 0 9 := ⟨⟨Or.inl q1352, q209, q734, ⟨by decide, by decide⟩, by decide +kernel, by decide⟩, q732, q733, _, _, rfl, by decide⟩
theorem mv_X1_748 : xMv RX1 748 mX1_push 2 0 := ⟨⟨Or.inl q1353, q196, q1356, ⟨by decide, by decide⟩, by decide +kernel, by decide⟩, q1355, qs74, _, _, rfl, by decide⟩
theorem mv_X1_751 : xMv RX1 751 mX1_pushes 2 0 := ⟨⟨Or.inl q1357, q196, q1360, ⟨by decide, by decide⟩, by decide +kernel, by decide⟩, q1359, qs75, _, _, rfl, by decide⟩
theorem mv_X1_754 : xMv RX1 754 mX1_perform 4 0 := ⟨⟨Or.inl q821, q196, q824, ⟨by decide, by decide⟩, by decide +kernel, by decide⟩, q823, qs2, _, _, rfl, by decide⟩
theorem mv_X1_760 : xMv RX1 760 mX1_hasSuper 0 0 := ⟨⟨Or.inl q1465, q196, q1468, ⟨by decide, by decide⟩, by decide +kernel, by decide⟩, q1467, qs77, _, _, rfl, by decide⟩
theorem mv_X1_763 : xMv RX1 763 mX1_isHeadRight 0 0 := ⟨⟨Or.inl q1469, q196, q1472, ⟨by decide, by decide⟩, by decide +kernel, by decide⟩, q1471, qs78, _, _, rfl, by decide⟩
theorem mv_X1_766 : xMv RX1 766 mX2_sequence 0 1 := ⟨⟨Or.inl q1481, q197, q1484, ⟨by decide, by decide⟩, by decide +kernel, by decide⟩, q1482, q1483, _, _, rfl, by decide⟩
theorem mv_X1_771 : xMv RX1 771 mX1_install 0 0 := ⟨⟨Or.inl q1485, q196, q1488, ⟨by decide, by decide⟩, by decide +kernel, by decide⟩, q1487, qs79, _, _, rfl, by decide⟩
theorem mv_X1_774 : xMv RX1 774 mX1_readTree 0 0 := ⟨⟨Or.inl q1489, q196, q1492, ⟨by decide, by decide⟩, by decide +kernel, by decide⟩, q1491, qs80, _, _, rfl, by decide⟩
theorem mv_X1_777 : xMv RX1 777 mX2_block 1 1 := ⟨⟨Or.inl q1473, q197, q1476, ⟨by decide, by decide⟩, by decide +kernel, by decide⟩, q1474, q1475, _, _, rfl, by decide⟩
theorem mv_X1_780 : xMv RX1 780 mX2_hasSum 1 1 := ⟨⟨Or.inl q1477, q197, q1480, ⟨by decide, by decide⟩, by decide +kernel, by decide⟩, q1478, q1479, _, _, rfl, by decide⟩
theorem mv_X1_784 : xMv RX1 784 mX1_readInode 2 0 := ⟨⟨Or.inl q1493, q196, q1496, ⟨by decide, by decide⟩, by decide +kernel, by decide⟩, q1495, qs81, _, _, rfl, by decide⟩
theorem mv_X1_787 : xMv RX1 787 mX1_isTold 1 0 := ⟨⟨Or.inl q1527, q196, q1530, ⟨by decide, by decide⟩, by decide +kernel, by decide⟩, q1529, qs88, _, _, rfl, by decide⟩
theorem mv_X1_790 : xMv RX1 790 mX1_at 1 0 := ⟨⟨Or.inl q1497, q196, q1500, ⟨by decide, by decide⟩, by decide +kernel, by decide⟩, q1499, qs82, _, _, rfl, by decide⟩
theorem mv_X1_793 : xMv RX1 793 mX6_number 2 5 := ⟨⟨Or.inl q1501, q204, q1504, ⟨by decide, by decide⟩, by decide +kernel, by decide⟩, q1502, q1503, _, _, rfl, by decide⟩
theorem mv_X1_796 : xMv RX1 796 mX1_isEmpty 2 0 := ⟨⟨Or.inl q1505, q196, q1508, ⟨by decide, by decide⟩, by decide +kernel, by decide⟩, q1507, qs83, _, _, rfl, by decide⟩
theorem mv_X1_799 : xMv RX1 799 mX1_readBlocks 2 0 := ⟨⟨Or.inl q1509, q196, q1512, ⟨by decide, by decide⟩, by decide +kernel, by decide⟩, q1511, qs84, _, _, rfl, by decide⟩
theorem mv_X1_802 : xMv RX1 802 mX1_readSlots 1 0 := ⟨⟨Or.inl q1517, q196, q1520, ⟨by decide, by decide⟩, by decide +kernel, by decide⟩, q1519, qs86, _, _, rfl, by decide⟩
theorem mv_X1_805 : xMv RX1 805 mX1_takes 1 0 := ⟨⟨Or.inl q1513, q196, q1516, ⟨by decide, by decide⟩, by decide +kernel, by decide⟩, q1515, qs85, _, _, rfl, by decide⟩
theorem mv_X1_808 : xMv RX1 808 mX1_isName 3 0 := ⟨⟨Or.inl q1521, q196, q1524, ⟨by decide, by decide⟩, by decide +kernel, by decide⟩, q1523, qs87, _, _, rfl, by decide⟩
theorem mv_X1_812 : xMv RX1 812 mX7_slotOf 3 6 := ⟨⟨Or.inl q1525, q206, q1037, ⟨by decide, by decide⟩, by decide +kernel, by decide⟩, q1035, q1036, _, _, rfl, by decide⟩
theorem mv_X1_816 : xMv RX1 816 mX7_name 4 6 := ⟨⟨Or.inl q1526, q206, q1077, ⟨by decide, by decide⟩, by decide +kernel, by decide⟩, q1075, q1076, _, _, rfl, by decide⟩
theorem mv_X1_823 : xMv RX1 823 mX1_comesUp 1 0 := ⟨⟨Or.inl q1531, q196, q1534, ⟨by decide, by decide⟩, by decide +kernel, by decide⟩, q1533, qs89, _, _, rfl, by decide⟩
theorem mv_X1_826 : xMv RX1 826 mX1_aboveOf 1 0 := ⟨⟨Or.inl q1535, q196, q1538, ⟨by decide, by decide⟩, by decide +kernel, by decide⟩, q1537, qs90, _, _, rfl, by decide⟩
theorem ms_X1_829 : xMs RX1 829 mX1_index 1 := ⟨⟨Or.inl q1618, q196, q1620, ⟨by decide, by decide⟩, by decide +kernel, by decide⟩, q1619⟩
theorem mv_X1_832 : xMv RX1 832 mX1_freeBlocks 0 0 := ⟨⟨Or.inl q1664, q196, q1667, ⟨by decide, by decide⟩, by decide +kernel, by decide⟩, q1666, qs91, _, _, rfl, by decide⟩
theorem ms_X6_18 : xMs RX6 18 mJ3_min 2 := ⟨⟨Or.inl q387, q205, q389, ⟨by decide, by decide⟩, by decide +kernel, by decide⟩, q388⟩
theorem mv_X6_31 : xMv RX6 31 mX6_firstData 0 5 := ⟨⟨Or.inl q1281, q204, q1284, ⟨by decide, by decide⟩, by decide +kernel, by decide⟩, q1282, q1283, _, _, rfl, by decide⟩
theorem cp_X6_44 : xCp RX6 44 := ⟨q1331, q718, q717, q211⟩
theorem ms_X6_56 : xMs RX6 56 mJ4_rotateLeft 2 := ⟨⟨Or.inl q705, q210, q707, ⟨by decide, by decide⟩, by decide +kernel, by decide⟩, q706⟩
theorem mv_X6_62 : xMv RX6 62 mX6_put 3 5 := ⟨⟨Or.inl q692, q204, q695, ⟨by decide, by decide⟩, by decide +kernel, by decide⟩, q693, q694, _, _, rfl, by decide⟩
theorem mv_X7_80 : xMv RX7 80 mX7_hasName 4 6 := ⟨⟨Or.inl q1038, q206, q1041, ⟨by decide, by decide⟩, by decide +kernel, by decide⟩, q1039, q1040, _, _, rfl, by decide⟩
theorem mv_X5_34 : xMv RX5 34 mX5_add 2 4 := ⟨⟨Or.inl q836, q203, q839, ⟨by decide, by decide⟩, by decide +kernel, by decide⟩, q838, qs4, _, _, rfl, by decide⟩
theorem mv_X5_38 : xMv RX5 38 mX5_isDots 2 4 := ⟨⟨Or.inl q848, q203, q851, ⟨by decide, by decide⟩, by decide +kernel, by decide⟩, q849, q850, _, _, rfl, by decide⟩
theorem mv_X5_41 : xMv RX5 41 mX5_isName 1 4 := ⟨⟨Or.inl q844, q203, q847, ⟨by decide, by decide⟩, by decide +kernel, by decide⟩, q845, q846, _, _, rfl, by decide⟩
theorem mv_X5_52 : xMv RX5 52 mX5_part 3 4 := ⟨⟨Or.inl q1025, q203, q1028, ⟨by decide, by decide⟩, by decide +kernel, by decide⟩, q1027, qs26, _, _, rfl, by decide⟩
theorem mv_X5_60 : xMv RX5 60 mX7_slotOf 3 6 := ⟨⟨Or.inl q1034, q206, q1037, ⟨by decide, by decide⟩, by decide +kernel, by decide⟩, q1035, q1036, _, _, rfl, by decide⟩
theorem mv_X5_81 : xMv RX5 81 mX5_step 2 4 := ⟨⟨Or.inl q892, q203, q895, ⟨by decide, by decide⟩, by decide +kernel, by decide⟩, q894, qs9, _, _, rfl, by decide⟩
theorem mv_X5_85 : xMv RX5 85 mX5_directory 1 4 := ⟨⟨Or.inl q896, q203, q899, ⟨by decide, by decide⟩, by decide +kernel, by decide⟩, q898, qs10, _, _, rfl, by decide⟩
theorem mv_X5_99 : xMv RX5 99 mX5_access 3 4 := ⟨⟨Or.inl q1021, q203, q1024, ⟨by decide, by decide⟩, by decide +kernel, by decide⟩, q1022, q1023, _, _, rfl, by decide⟩
theorem mv_X5_102 : xMv RX5 102 mX5_entry 2 4 := ⟨⟨Or.inl q1030, q203, q1033, ⟨by decide, by decide⟩, by decide +kernel, by decide⟩, q1031, q1032, _, _, rfl, by decide⟩
theorem mv_X5_109 : xMv RX5 109 mX4_by 1 3 := ⟨⟨Or.inl q904, q202, q879, ⟨by decide, by decide⟩, by decide +kernel, by decide⟩, q877, q878, _, _, rfl, by decide⟩
theorem mv_X5_115 : xMv RX5 115 mX5_walk 1 4 := ⟨⟨Or.inl q888, q203, q891, ⟨by decide, by decide⟩, by decide +kernel, by decide⟩, q889, q890, _, _, rfl, by decide⟩
theorem mv_X5_122 : xMv RX5 122 mX7_namesFor 1 6 := ⟨⟨Or.inl q1058, q206, q1061, ⟨by decide, by decide⟩, by decide +kernel, by decide⟩, q1059, q1060, _, _, rfl, by decide⟩
theorem mv_X5_126 : xMv RX5 126 mX7_freeSlot 0 6 := ⟨⟨Or.inl q1062, q206, q1065, ⟨by decide, by decide⟩, by decide +kernel, by decide⟩, q1063, q1064, _, _, rfl, by decide⟩
theorem mv_X5_130 : xMv RX5 130 mX7_name 4 6 := ⟨⟨Or.inl q1074, q206, q1077, ⟨by decide, by decide⟩, by decide +kernel, by decide⟩, q1075, q1076, _, _, rfl, by decide⟩
theorem mv_X5_134 : xMv RX5 134 mX7_put 3 6 := ⟨⟨Or.inl q1078, q206, q1081, ⟨by decide, by decide⟩, by decide +kernel, by decide⟩, q1079, q1080, _, _, rfl, by decide⟩
theorem mv_X5_138 : xMv RX5 138 mX5_take 1 4 := ⟨⟨Or.inl q1054, q203, q1057, ⟨by decide, by decide⟩, by decide +kernel, by decide⟩, q1055, q1056, _, _, rfl, by decide⟩
theorem mv_X5_142 : xMv RX5 142 mX7_isFree 0 6 := ⟨⟨Or.inl q1066, q206, q1069, ⟨by decide, by decide⟩, by decide +kernel, by decide⟩, q1067, q1068, _, _, rfl, by decide⟩
theorem mv_X5_152 : xMv RX5 152 mX5_put 3 4 := ⟨⟨Or.inl q1070, q203, q1073, ⟨by decide, by decide⟩, by decide +kernel, by decide⟩, q1071, q1072, _, _, rfl, by decide⟩
theorem mv_X5_155 : xMv RX5 155 mX7_isDirectory 0 6 := ⟨⟨Or.inl q900, q206, q903, ⟨by decide, by decide⟩, by decide +kernel, by decide⟩, q901, q902, _, _, rfl, by decide⟩
theorem cp_X9_22 : xCp RX9 22 := ⟨q945, q718, q717, q211⟩
theorem mv_X10_48 : xMv RX10 48 mX10_endGroup 0 9 := ⟨⟨Or.inl q731, q209, q734, ⟨by decide, by decide⟩, by decide +kernel, by decide⟩, q732, q733, _, _, rfl, by decide⟩
theorem cp_X10_69 : xCp RX10 69 := ⟨q962, q718, q717, q211⟩
theorem mi_X4_1 : xMi RX4 1 mJ2_init 0 := ⟨⟨Or.inl q331, q201, q333, ⟨by decide, by decide⟩, by decide +kernel, by decide⟩, q332, rfl, rfl, rfl⟩
theorem cp_X3_31 : xCp RX3 31 := ⟨q1008, q718, q717, q211⟩
theorem mv_X3_41 : xMv RX3 41 mX3_is 5 2 := ⟨⟨Or.inl q917, q198, q920, ⟨by decide, by decide⟩, by decide +kernel, by decide⟩, q919, qs13, _, _, rfl, by decide⟩
theorem mv_X3_45 : xMv RX3 45 mX3_twice 1 2 := ⟨⟨Or.inl q1004, q198, q1007, ⟨by decide, by decide⟩, by decide +kernel, by decide⟩, q1006, qs23, _, _, rfl, by decide⟩
theorem mv_X3_49 : xMv RX3 49 mX3_twice_2 1 2 := ⟨⟨Or.inl q1009, q198, q1012, ⟨by decide, by decide⟩, by decide +kernel, by decide⟩, q1011, qs24, _, _, rfl, by decide⟩
theorem mv_X3_52 : xMv RX3 52 mX3_sweep 0 2 := ⟨⟨Or.inl q954, q198, q957, ⟨by decide, by decide⟩, by decide +kernel, by decide⟩, q955, q956, _, _, rfl, by decide⟩
theorem mv_X0_7 : xMv RX0 7 mX1_type 2 0 := ⟨⟨Or.inl q1547, q196, q1550, ⟨by decide, by decide⟩, by decide +kernel, by decide⟩, q1548, q1549, _, _, rfl, by decide⟩
theorem mv_X0_17 : xMv RX0 17 mX1_power 2 0 := ⟨⟨Or.inl q1575, q196, q1578, ⟨by decide, by decide⟩, by decide +kernel, by decide⟩, q1576, q1577, _, _, rfl, by decide⟩
theorem mv_X0_21 : xMv RX0 21 mX1_poke 3 0 := ⟨⟨Or.inl q1614, q196, q1617, ⟨by decide, by decide⟩, by decide +kernel, by decide⟩, q1615, q1616, _, _, rfl, by decide⟩
theorem mv_X0_27 : xMv RX0 27 mX1_byteAt 2 0 := ⟨⟨Or.inl q1639, q196, q1642, ⟨by decide, by decide⟩, by decide +kernel, by decide⟩, q1640, q1641, _, _, rfl, by decide⟩
theorem mv_X0_30 : xMv RX0 30 mX1_out 1 0 := ⟨⟨Or.inl q1646, q196, q1649, ⟨by decide, by decide⟩, by decide +kernel, by decide⟩, q1647, q1648, _, _, rfl, by decide⟩
theorem mv_X0_34 : xMv RX0 34 mX1_process 2 0 := ⟨⟨Or.inl q1653, q196, q1656, ⟨by decide, by decide⟩, by decide +kernel, by decide⟩, q1654, q1655, _, _, rfl, by decide⟩
theorem mv_X0_37 : xMv RX0 37 mX1_told 1 0 := ⟨⟨Or.inl q1660, q196, q1663, ⟨by decide, by decide⟩, by decide +kernel, by decide⟩, q1661, q1662, _, _, rfl, by decide⟩
theorem ms_X0_40 : xMs RX0 40 mX0_cell 2 := ⟨⟨Or.inl q1539, q195, q1541, ⟨by decide, by decide⟩, by decide +kernel, by decide⟩, q1540⟩
theorem mi_X0_46 : xMi RX0 46 mX1_init 3 := ⟨⟨Or.inl q222, q196, q224, ⟨by decide, by decide⟩, by decide +kernel, by decide⟩, q223, rfl, rfl, rfl⟩
theorem mi_X0_51 : xMi RX0 51 mX11_init 3 := ⟨⟨Or.inl q1674, q212, q1676, ⟨by decide, by decide⟩, by decide +kernel, by decide⟩, q1675, rfl, rfl, rfl⟩
theorem mv_X0_52 : xMv RX0 52 mX1_format 0 0 := ⟨⟨Or.inl q816, q196, q687, ⟨by decide, by decide⟩, by decide +kernel, by decide⟩, q685, q686, _, _, rfl, by decide⟩
theorem mv_X0_55 : xMv RX0 55 mX11_format 0 10 := ⟨⟨Or.inl q2160, q212, q1878, ⟨by decide, by decide⟩, by decide +kernel, by decide⟩, q1876, q1877, _, _, rfl, by decide⟩
theorem ms_X0_58 : xMs RX0 58 mX0_type 4 := ⟨⟨Or.inl q1542, q195, q1544, ⟨by decide, by decide⟩, by decide +kernel, by decide⟩, q1543⟩
theorem mv_X0_61 : xMv RX0 61 mX11_type 2 10 := ⟨⟨Or.inl q2161, q212, q2164, ⟨by decide, by decide⟩, by decide +kernel, by decide⟩, q2162, q2163, _, _, rfl, by decide⟩
theorem mv_X0_62 : xMv RX0 62 mX11_thrown 0 10 := ⟨⟨Or.inl q1668, q212, q1671, ⟨by decide, by decide⟩, by decide +kernel, by decide⟩, q1669, q1670, _, _, rfl, by decide⟩
theorem mv_X0_66 : xMv RX0 66 mX1_open 2 0 := ⟨⟨Or.inl q817, q196, q820, ⟨by decide, by decide⟩, by decide +kernel, by decide⟩, q818, q819, _, _, rfl, by decide⟩
theorem mv_X0_69 : xMv RX0 69 mX11_open 2 10 := ⟨⟨Or.inl q2165, q212, q2168, ⟨by decide, by decide⟩, by decide +kernel, by decide⟩, q2166, q2167, _, _, rfl, by decide⟩
theorem mv_X0_70 : xMv RX0 70 mX1_close 2 0 := ⟨⟨Or.inl q1365, q196, q1368, ⟨by decide, by decide⟩, by decide +kernel, by decide⟩, q1366, q1367, _, _, rfl, by decide⟩
theorem mv_X0_73 : xMv RX0 73 mX11_close 2 10 := ⟨⟨Or.inl q2431, q212, q2434, ⟨by decide, by decide⟩, by decide +kernel, by decide⟩, q2432, q2433, _, _, rfl, by decide⟩
theorem mv_X0_74 : xMv RX0 74 mX1_read 3 0 := ⟨⟨Or.inl q1369, q196, q1372, ⟨by decide, by decide⟩, by decide +kernel, by decide⟩, q1370, q1371, _, _, rfl, by decide⟩
theorem mv_X0_77 : xMv RX0 77 mX11_read 3 10 := ⟨⟨Or.inl q2443, q212, q2446, ⟨by decide, by decide⟩, by decide +kernel, by decide⟩, q2444, q2445, _, _, rfl, by decide⟩
theorem mv_X0_78 : xMv RX0 78 mX1_write 2 0 := ⟨⟨Or.inl q1373, q196, q1376, ⟨by decide, by decide⟩, by decide +kernel, by decide⟩, q1374, q1375, _, _, rfl, by decide⟩
theorem mv_X0_81 : xMv RX0 81 mX11_write 2 10 := ⟨⟨Or.inl q2483, q212, q2486, ⟨by decide, by decide⟩, by decide +kernel, by decide⟩, q2484, q2485, _, _, rfl, by decide⟩
theorem mv_X0_82 : xMv RX0 82 mX1_seek 3 0 := ⟨⟨Or.inl q1377, q196, q1380, ⟨by decide, by decide⟩, by decide +kernel, by decide⟩, q1378, q1379, _, _, rfl, by decide⟩
theorem mv_X0_85 : xMv RX0 85 mX11_seek 3 10 := ⟨⟨Or.inl q2495, q212, q2498, ⟨by decide, by decide⟩, by decide +kernel, by decide⟩, q2496, q2497, _, _, rfl, by decide⟩
theorem mv_X0_86 : xMv RX0 86 mX1_cut 3 0 := ⟨⟨Or.inl q1381, q196, q1384, ⟨by decide, by decide⟩, by decide +kernel, by decide⟩, q1382, q1383, _, _, rfl, by decide⟩
theorem mv_X0_89 : xMv RX0 89 mX11_cut 3 10 := ⟨⟨Or.inl q2503, q212, q2506, ⟨by decide, by decide⟩, by decide +kernel, by decide⟩, q2504, q2505, _, _, rfl, by decide⟩
theorem mv_X0_90 : xMv RX0 90 mX1_twin 2 0 := ⟨⟨Or.inl q1385, q196, q1388, ⟨by decide, by decide⟩, by decide +kernel, by decide⟩, q1386, q1387, _, _, rfl, by decide⟩
theorem mv_X0_93 : xMv RX0 93 mX11_twin 2 10 := ⟨⟨Or.inl q2511, q212, q2514, ⟨by decide, by decide⟩, by decide +kernel, by decide⟩, q2512, q2513, _, _, rfl, by decide⟩
theorem mv_X0_94 : xMv RX0 94 mX1_pipe 1 0 := ⟨⟨Or.inl q1389, q196, q1392, ⟨by decide, by decide⟩, by decide +kernel, by decide⟩, q1390, q1391, _, _, rfl, by decide⟩
theorem mv_X0_97 : xMv RX0 97 mX11_pipe 1 10 := ⟨⟨Or.inl q2515, q212, q2518, ⟨by decide, by decide⟩, by decide +kernel, by decide⟩, q2516, q2517, _, _, rfl, by decide⟩
theorem mv_X0_98 : xMv RX0 98 mX1_make 1 0 := ⟨⟨Or.inl q1393, q196, q1396, ⟨by decide, by decide⟩, by decide +kernel, by decide⟩, q1394, q1395, _, _, rfl, by decide⟩
theorem mv_X0_101 : xMv RX0 101 mX11_make 1 10 := ⟨⟨Or.inl q2527, q212, q2530, ⟨by decide, by decide⟩, by decide +kernel, by decide⟩, q2528, q2529, _, _, rfl, by decide⟩
theorem mv_X0_102 : xMv RX0 102 mX1_unlink 1 0 := ⟨⟨Or.inl q1397, q196, q1400, ⟨by decide, by decide⟩, by decide +kernel, by decide⟩, q1398, q1399, _, _, rfl, by decide⟩
theorem mv_X0_105 : xMv RX0 105 mX11_unlink 1 10 := ⟨⟨Or.inl q2535, q212, q2538, ⟨by decide, by decide⟩, by decide +kernel, by decide⟩, q2536, q2537, _, _, rfl, by decide⟩
theorem mv_X0_106 : xMv RX0 106 mX1_remove 1 0 := ⟨⟨Or.inl q1401, q196, q1404, ⟨by decide, by decide⟩, by decide +kernel, by decide⟩, q1402, q1403, _, _, rfl, by decide⟩
theorem mv_X0_109 : xMv RX0 109 mX11_remove 1 10 := ⟨⟨Or.inl q2556, q212, q2559, ⟨by decide, by decide⟩, by decide +kernel, by decide⟩, q2557, q2558, _, _, rfl, by decide⟩
theorem mv_X0_110 : xMv RX0 110 mX1_link 1 0 := ⟨⟨Or.inl q1405, q196, q1408, ⟨by decide, by decide⟩, by decide +kernel, by decide⟩, q1406, q1407, _, _, rfl, by decide⟩
theorem mv_X0_113 : xMv RX0 113 mX11_link 1 10 := ⟨⟨Or.inl q2568, q212, q2571, ⟨by decide, by decide⟩, by decide +kernel, by decide⟩, q2569, q2570, _, _, rfl, by decide⟩
theorem mv_X0_114 : xMv RX0 114 mX1_rename 1 0 := ⟨⟨Or.inl q1409, q196, q1412, ⟨by decide, by decide⟩, by decide +kernel, by decide⟩, q1410, q1411, _, _, rfl, by decide⟩
theorem mv_X0_117 : xMv RX0 117 mX11_rename 1 10 := ⟨⟨Or.inl q2580, q212, q2583, ⟨by decide, by decide⟩, by decide +kernel, by decide⟩, q2581, q2582, _, _, rfl, by decide⟩
theorem mv_X0_118 : xMv RX0 118 mX1_look 2 0 := ⟨⟨Or.inl q1413, q196, q1416, ⟨by decide, by decide⟩, by decide +kernel, by decide⟩, q1414, q1415, _, _, rfl, by decide⟩
theorem mv_X0_121 : xMv RX0 121 mX11_look_2 2 10 := ⟨⟨Or.inl q2588, q212, q2591, ⟨by decide, by decide⟩, by decide +kernel, by decide⟩, q2589, q2590, _, _, rfl, by decide⟩
theorem mv_X0_122 : xMv RX0 122 mX1_list 1 0 := ⟨⟨Or.inl q1417, q196, q1420, ⟨by decide, by decide⟩, by decide +kernel, by decide⟩, q1418, q1419, _, _, rfl, by decide⟩
theorem mv_X0_125 : xMv RX0 125 mX11_list 1 10 := ⟨⟨Or.inl q2596, q212, q2599, ⟨by decide, by decide⟩, by decide +kernel, by decide⟩, q2597, q2598, _, _, rfl, by decide⟩
theorem mv_X0_126 : xMv RX0 126 mX1_go 1 0 := ⟨⟨Or.inl q1421, q196, q1424, ⟨by decide, by decide⟩, by decide +kernel, by decide⟩, q1422, q1423, _, _, rfl, by decide⟩
theorem mv_X0_129 : xMv RX0 129 mX11_go 1 10 := ⟨⟨Or.inl q2611, q212, q2614, ⟨by decide, by decide⟩, by decide +kernel, by decide⟩, q2612, q2613, _, _, rfl, by decide⟩
theorem mv_X0_130 : xMv RX0 130 mX1_fork 1 0 := ⟨⟨Or.inl q1425, q196, q1428, ⟨by decide, by decide⟩, by decide +kernel, by decide⟩, q1426, q1427, _, _, rfl, by decide⟩
theorem mv_X0_133 : xMv RX0 133 mX11_fork 1 10 := ⟨⟨Or.inl q2615, q212, q2618, ⟨by decide, by decide⟩, by decide +kernel, by decide⟩, q2616, q2617, _, _, rfl, by decide⟩
theorem mv_X0_134 : xMv RX0 134 mX1_exit 2 0 := ⟨⟨Or.inl q1429, q196, q1432, ⟨by decide, by decide⟩, by decide +kernel, by decide⟩, q1430, q1431, _, _, rfl, by decide⟩
theorem mv_X0_137 : xMv RX0 137 mX11_exit 2 10 := ⟨⟨Or.inl q2623, q212, q2626, ⟨by decide, by decide⟩, by decide +kernel, by decide⟩, q2624, q2625, _, _, rfl, by decide⟩
theorem mv_X0_138 : xMv RX0 138 mX1_await 1 0 := ⟨⟨Or.inl q1433, q196, q1436, ⟨by decide, by decide⟩, by decide +kernel, by decide⟩, q1434, q1435, _, _, rfl, by decide⟩
theorem mv_X0_141 : xMv RX0 141 mX11_await 1 10 := ⟨⟨Or.inl q2631, q212, q2634, ⟨by decide, by decide⟩, by decide +kernel, by decide⟩, q2632, q2633, _, _, rfl, by decide⟩
theorem mv_X0_142 : xMv RX0 142 mX1_kill 3 0 := ⟨⟨Or.inl q1437, q196, q1440, ⟨by decide, by decide⟩, by decide +kernel, by decide⟩, q1438, q1439, _, _, rfl, by decide⟩
theorem mv_X0_145 : xMv RX0 145 mX11_kill 3 10 := ⟨⟨Or.inl q2639, q212, q2642, ⟨by decide, by decide⟩, by decide +kernel, by decide⟩, q2640, q2641, _, _, rfl, by decide⟩
theorem mv_X0_146 : xMv RX0 146 mX1_signals 1 0 := ⟨⟨Or.inl q1441, q196, q1444, ⟨by decide, by decide⟩, by decide +kernel, by decide⟩, q1442, q1443, _, _, rfl, by decide⟩
theorem mv_X0_149 : xMv RX0 149 mX11_signals 1 10 := ⟨⟨Or.inl q2647, q212, q2650, ⟨by decide, by decide⟩, by decide +kernel, by decide⟩, q2648, q2649, _, _, rfl, by decide⟩
theorem mv_X0_150 : xMv RX0 150 mX1_xbegin 1 0 := ⟨⟨Or.inl q1445, q196, q1448, ⟨by decide, by decide⟩, by decide +kernel, by decide⟩, q1446, q1447, _, _, rfl, by decide⟩
theorem mv_X0_153 : xMv RX0 153 mX11_xbegin 1 10 := ⟨⟨Or.inl q2651, q212, q2654, ⟨by decide, by decide⟩, by decide +kernel, by decide⟩, q2652, q2653, _, _, rfl, by decide⟩
theorem mv_X0_154 : xMv RX0 154 mX1_xend 1 0 := ⟨⟨Or.inl q1449, q196, q1452, ⟨by decide, by decide⟩, by decide +kernel, by decide⟩, q1450, q1451, _, _, rfl, by decide⟩
theorem mv_X0_157 : xMv RX0 157 mX11_xend 1 10 := ⟨⟨Or.inl q2655, q212, q2658, ⟨by decide, by decide⟩, by decide +kernel, by decide⟩, q2656, q2657, _, _, rfl, by decide⟩
theorem mv_X0_158 : xMv RX0 158 mX1_xabort 1 0 := ⟨⟨Or.inl q1453, q196, q1456, ⟨by decide, by decide⟩, by decide +kernel, by decide⟩, q1454, q1455, _, _, rfl, by decide⟩
theorem mv_X0_161 : xMv RX0 161 mX11_xabort 1 10 := ⟨⟨Or.inl q2659, q212, q2662, ⟨by decide, by decide⟩, by decide +kernel, by decide⟩, q2660, q2661, _, _, rfl, by decide⟩
theorem ms_X0_162 : xMs RX0 162 mX0_power 4 := ⟨⟨Or.inl q1572, q195, q1574, ⟨by decide, by decide⟩, by decide +kernel, by decide⟩, q1573⟩
theorem mv_X0_165 : xMv RX0 165 mX11_power 2 10 := ⟨⟨Or.inl q2663, q212, q2666, ⟨by decide, by decide⟩, by decide +kernel, by decide⟩, q2664, q2665, _, _, rfl, by decide⟩
theorem mv_X0_166 : xMv RX0 166 mX1_stop 0 0 := ⟨⟨Or.inl q1457, q196, q1460, ⟨by decide, by decide⟩, by decide +kernel, by decide⟩, q1458, q1459, _, _, rfl, by decide⟩
theorem mv_X0_170 : xMv RX0 170 mX11_stop 0 10 := ⟨⟨Or.inl q2667, q212, q2670, ⟨by decide, by decide⟩, by decide +kernel, by decide⟩, q2668, q2669, _, _, rfl, by decide⟩
theorem mv_X0_171 : xMv RX0 171 mX1_start 0 0 := ⟨⟨Or.inl q1461, q196, q1464, ⟨by decide, by decide⟩, by decide +kernel, by decide⟩, q1462, q1463, _, _, rfl, by decide⟩
theorem mv_X0_174 : xMv RX0 174 mX11_start 0 10 := ⟨⟨Or.inl q2671, q212, q2674, ⟨by decide, by decide⟩, by decide +kernel, by decide⟩, q2672, q2673, _, _, rfl, by decide⟩
theorem ms_X0_175 : xMs RX0 175 mX0_poke 5 := ⟨⟨Or.inl q1579, q195, q1581, ⟨by decide, by decide⟩, by decide +kernel, by decide⟩, q1580⟩
theorem mv_X0_178 : xMv RX0 178 mX11_poke 3 10 := ⟨⟨Or.inl q2703, q212, q2706, ⟨by decide, by decide⟩, by decide +kernel, by decide⟩, q2704, q2705, _, _, rfl, by decide⟩
theorem ms_X0_179 : xMs RX0 179 mX0_byteAt 4 := ⟨⟨Or.inl q1636, q195, q1638, ⟨by decide, by decide⟩, by decide +kernel, by decide⟩, q1637⟩
theorem mv_X0_181 : xMv RX0 181 mX11_byteAt 2 10 := ⟨⟨Or.inl q2707, q212, q2710, ⟨by decide, by decide⟩, by decide +kernel, by decide⟩, q2708, q2709, _, _, rfl, by decide⟩
theorem ms_X0_182 : xMs RX0 182 mX0_out 3 := ⟨⟨Or.inl q1643, q195, q1645, ⟨by decide, by decide⟩, by decide +kernel, by decide⟩, q1644⟩
theorem mv_X0_185 : xMv RX0 185 mX11_out 1 10 := ⟨⟨Or.inl q2711, q212, q2714, ⟨by decide, by decide⟩, by decide +kernel, by decide⟩, q2712, q2713, _, _, rfl, by decide⟩
theorem ms_X0_186 : xMs RX0 186 mX0_process 4 := ⟨⟨Or.inl q1650, q195, q1652, ⟨by decide, by decide⟩, by decide +kernel, by decide⟩, q1651⟩
theorem mv_X0_188 : xMv RX0 188 mX11_process 2 10 := ⟨⟨Or.inl q2715, q212, q2718, ⟨by decide, by decide⟩, by decide +kernel, by decide⟩, q2716, q2717, _, _, rfl, by decide⟩
theorem ms_X0_189 : xMs RX0 189 mX0_told 3 := ⟨⟨Or.inl q1657, q195, q1659, ⟨by decide, by decide⟩, by decide +kernel, by decide⟩, q1658⟩
theorem mv_X0_191 : xMv RX0 191 mX11_told 1 10 := ⟨⟨Or.inl q2723, q212, q2726, ⟨by decide, by decide⟩, by decide +kernel, by decide⟩, q2724, q2725, _, _, rfl, by decide⟩
theorem cp_X11_1 : xCp RX11 1 := ⟨q2185, q718, q717, q211⟩
theorem ms_X11_200 : xMs RX11 200 mJ3_min 2 := ⟨⟨Or.inl q1874, q205, q389, ⟨by decide, by decide⟩, by decide +kernel, by decide⟩, q388⟩
theorem mv_X11_224 : xMv RX11 224 mX11_format 0 10 := ⟨⟨Or.inl q1875, q212, q1878, ⟨by decide, by decide⟩, by decide +kernel, by decide⟩, q1876, q1877, _, _, rfl, by decide⟩
theorem mv_X11_230 : xMv RX11 230 mX11_headOf 4 10 := ⟨⟨Or.inl q1879, q212, q1882, ⟨by decide, by decide⟩, by decide +kernel, by decide⟩, q1881, qs92, _, _, rfl, by decide⟩
theorem mv_X11_256 : xMv RX11 256 mX11_emptyTree 0 10 := ⟨⟨Or.inl q1888, q212, q1891, ⟨by decide, by decide⟩, by decide +kernel, by decide⟩, q1890, qs94, _, _, rfl, by decide⟩
theorem mv_X11_259 : xMv RX11 259 mX11_first 0 10 := ⟨⟨Or.inl q1892, q212, q1895, ⟨by decide, by decide⟩, by decide +kernel, by decide⟩, q1894, qs95, _, _, rfl, by decide⟩
theorem mv_X11_262 : xMv RX11 262 mX11_release 1 10 := ⟨⟨Or.inl q1896, q212, q1899, ⟨by decide, by decide⟩, by decide +kernel, by decide⟩, q1898, qs96, _, _, rfl, by decide⟩
theorem mv_X11_268 : xMv RX11 268 mX11_sumOf 4 10 := ⟨⟨Or.inl q1883, q212, q1886, ⟨by decide, by decide⟩, by decide +kernel, by decide⟩, q1885, qs93, _, _, rfl, by decide⟩
theorem mv_X11_313 : xMv RX11 313 mX12_overAt 2 11 := ⟨⟨Or.inl q2261, q213, q2264, ⟨by decide, by decide⟩, by decide +kernel, by decide⟩, q2262, q2263, _, _, rfl, by decide⟩
theorem mv_X11_316 : xMv RX11 316 mX11_inoAt 3 10 := ⟨⟨Or.inl q2285, q212, q2288, ⟨by decide, by decide⟩, by decide +kernel, by decide⟩, q2287, qs120, _, _, rfl, by decide⟩
theorem mv_X11_323 : xMv RX11 323 mX11_inRow 2 10 := ⟨⟨Or.inl q2320, q212, q2323, ⟨by decide, by decide⟩, by decide +kernel, by decide⟩, q2322, qs127, _, _, rfl, by decide⟩
theorem mv_X11_333 : xMv RX11 333 mX11_hasIt 2 10 := ⟨⟨Or.inl q2324, q212, q2327, ⟨by decide, by decide⟩, by decide +kernel, by decide⟩, q2326, qs128, _, _, rfl, by decide⟩
theorem mv_X11_337 : xMv RX11 337 mX11_isUsed 1 10 := ⟨⟨Or.inl q2316, q212, q2319, ⟨by decide, by decide⟩, by decide +kernel, by decide⟩, q2318, qs126, _, _, rfl, by decide⟩
theorem mv_X11_347 : xMv RX11 347 mX11_isSide 3 10 := ⟨⟨Or.inl q2427, q212, q2430, ⟨by decide, by decide⟩, by decide +kernel, by decide⟩, q2429, qs153, _, _, rfl, by decide⟩
theorem mv_X11_351 : xMv RX11 351 mX11_rowHasSide 3 10 := ⟨⟨Or.inl q2423, q212, q2426, ⟨by decide, by decide⟩, by decide +kernel, by decide⟩, q2425, qs152, _, _, rfl, by decide⟩
theorem mv_X11_355 : xMv RX11 355 mX11_groupHasSide 3 10 := ⟨⟨Or.inl q2459, q212, q2462, ⟨by decide, by decide⟩, by decide +kernel, by decide⟩, q2461, qs159, _, _, rfl, by decide⟩
theorem mv_X11_362 : xMv RX11 362 mX11_rowHolds 2 10 := ⟨⟨Or.inl q2407, q212, q2410, ⟨by decide, by decide⟩, by decide +kernel, by decide⟩, q2409, qs148, _, _, rfl, by decide⟩
theorem mv_X11_368 : xMv RX11 368 mX11_groupHolds 2 10 := ⟨⟨Or.inl q2411, q212, q2414, ⟨by decide, by decide⟩, by decide +kernel, by decide⟩, q2413, qs149, _, _, rfl, by decide⟩
theorem mv_X11_371 : xMv RX11 371 mX11_isHeld 2 10 := ⟨⟨Or.inl q2403, q212, q2406, ⟨by decide, by decide⟩, by decide +kernel, by decide⟩, q2405, qs147, _, _, rfl, by decide⟩
theorem mv_X11_403 : xMv RX11 403 mX12_markAt 3 11 := ⟨⟨Or.inl q2218, q213, q2221, ⟨by decide, by decide⟩, by decide +kernel, by decide⟩, q2219, q2220, _, _, rfl, by decide⟩
theorem mv_X11_410 : xMv RX11 410 mX12_wroteIn 1 11 := ⟨⟨Or.inl q2222, q213, q2225, ⟨by decide, by decide⟩, by decide +kernel, by decide⟩, q2223, q2224, _, _, rfl, by decide⟩
theorem mv_X11_413 : xMv RX11 413 mX11_row 2 10 := ⟨⟨Or.inl q2226, q212, q2229, ⟨by decide, by decide⟩, by decide +kernel, by decide⟩, q2228, qs109, _, _, rfl, by decide⟩
theorem mv_X11_417 : xMv RX11 417 mX11_isMet 4 10 := ⟨⟨Or.inl q2214, q212, q2217, ⟨by decide, by decide⟩, by decide +kernel, by decide⟩, q2216, qs108, _, _, rfl, by decide⟩
theorem mv_X11_424 : xMv RX11 424 mX11_abort 1 10 := ⟨⟨Or.inl q2230, q212, q2233, ⟨by decide, by decide⟩, by decide +kernel, by decide⟩, q2232, qs110, _, _, rfl, by decide⟩
theorem mv_X11_428 : xMv RX11 428 mX12_mark 4 11 := ⟨⟨Or.inl q2234, q213, q2237, ⟨by decide, by decide⟩, by decide +kernel, by decide⟩, q2235, q2236, _, _, rfl, by decide⟩
theorem mv_X11_432 : xMv RX11 432 mX11_touch 4 10 := ⟨⟨Or.inl q2210, q212, q2213, ⟨by decide, by decide⟩, by decide +kernel, by decide⟩, q2212, qs107, _, _, rfl, by decide⟩
theorem ms_X11_436 : xMs RX11 436 mX11_wider 1 := ⟨⟨Or.inl q2352, q212, q2241, ⟨by decide, by decide⟩, by decide +kernel, by decide⟩, q2240⟩
theorem ms_X11_440 : xMs RX11 440 mX11_wider_2 1 := ⟨⟨Or.inl q2353, q212, q2244, ⟨by decide, by decide⟩, by decide +kernel, by decide⟩, q2243⟩
theorem ms_X11_443 : xMs RX11 443 mJ7_fill 2 := ⟨⟨Or.inl q2301, q216, q2303, ⟨by decide, by decide⟩, by decide +kernel, by decide⟩, q2302⟩
theorem mv_X11_449 : xMv RX11 449 mX11_freeBlock 0 10 := ⟨⟨Or.inl q2363, q212, q2366, ⟨by decide, by decide⟩, by decide +kernel, by decide⟩, q2365, qs137, _, _, rfl, by decide⟩
theorem mv_X11_453 : xMv RX11 453 mX11_number 3 10 := ⟨⟨Or.inl q2371, q212, q2374, ⟨by decide, by decide⟩, by decide +kernel, by decide⟩, q2373, qs139, _, _, rfl, by decide⟩
theorem mv_X11_457 : xMv RX11 457 mX11_drawData 1 10 := ⟨⟨Or.inl q2375, q212, q2378, ⟨by decide, by decide⟩, by decide +kernel, by decide⟩, q2377, qs140, _, _, rfl, by decide⟩
theorem mv_X11_460 : xMv RX11 460 mX11_nameTo 4 10 := ⟨⟨Or.inl q2379, q212, q2382, ⟨by decide, by decide⟩, by decide +kernel, by decide⟩, q2381, qs141, _, _, rfl, by decide⟩
theorem mv_X11_464 : xMv RX11 464 mX11_keepAll 0 10 := ⟨⟨Or.inl q2340, q212, q2343, ⟨by decide, by decide⟩, by decide +kernel, by decide⟩, q2342, qs132, _, _, rfl, by decide⟩
theorem mv_X11_467 : xMv RX11 467 mX11_own_2 0 10 := ⟨⟨Or.inl q2344, q212, q2347, ⟨by decide, by decide⟩, by decide +kernel, by decide⟩, q2346, qs133, _, _, rfl, by decide⟩
theorem mv_X11_470 : xMv RX11 470 mX11_apply 1 10 := ⟨⟨Or.inl q2348, q212, q2351, ⟨by decide, by decide⟩, by decide +kernel, by decide⟩, q2350, qs134, _, _, rfl, by decide⟩
theorem mv_X11_473 : xMv RX11 473 mX11_hasOver 2 10 := ⟨⟨Or.inl q2354, q212, q2357, ⟨by decide, by decide⟩, by decide +kernel, by decide⟩, q2356, qs135, _, _, rfl, by decide⟩
theorem ms_X11_476 : xMs RX11 476 mJ3_max 2 := ⟨⟨Or.inl q2358, q205, q1142, ⟨by decide, by decide⟩, by decide +kernel, by decide⟩, q1141⟩
theorem mv_X11_479 : xMv RX11 479 mX11_fit 2 10 := ⟨⟨Or.inl q2359, q212, q2362, ⟨by decide, by decide⟩, by decide +kernel, by decide⟩, q2361, qs136, _, _, rfl, by decide⟩
theorem mv_X11_482 : xMv RX11 482 mX11_draw 0 10 := ⟨⟨Or.inl q2367, q212, q2370, ⟨by decide, by decide⟩, by decide +kernel, by decide⟩, q2369, qs138, _, _, rfl, by decide⟩
theorem mv_X11_485 : xMv RX11 485 mX11_undo 1 10 := ⟨⟨Or.inl q2383, q212, q2386, ⟨by decide, by decide⟩, by decide +kernel, by decide⟩, q2385, qs142, _, _, rfl, by decide⟩
theorem mv_X11_488 : xMv RX11 488 mX11_log 1 10 := ⟨⟨Or.inl q2387, q212, q2390, ⟨by decide, by decide⟩, by decide +kernel, by decide⟩, q2389, qs143, _, _, rfl, by decide⟩
theorem mv_X11_492 : xMv RX11 492 mX11_put 3 10 := ⟨⟨Or.inl q2391, q212, q2394, ⟨by decide, by decide⟩, by decide +kernel, by decide⟩, q2393, qs144, _, _, rfl, by decide⟩
theorem mv_X11_496 : xMv RX11 496 mX11_goDown 0 10 := ⟨⟨Or.inl q2395, q212, q2398, ⟨by decide, by decide⟩, by decide +kernel, by decide⟩, q2397, qs145, _, _, rfl, by decide⟩
theorem mv_X11_499 : xMv RX11 499 mX11_toDisk 2 10 := ⟨⟨Or.inl q2336, q212, q2339, ⟨by decide, by decide⟩, by decide +kernel, by decide⟩, q2338, qs131, _, _, rfl, by decide⟩
theorem mv_X11_503 : xMv RX11 503 mX11_sweep 0 10 := ⟨⟨Or.inl q2399, q212, q2402, ⟨by decide, by decide⟩, by decide +kernel, by decide⟩, q2401, qs146, _, _, rfl, by decide⟩
theorem mv_X11_532 : xMv RX11 532 mX11_ends 2 10 := ⟨⟨Or.inl q2415, q212, q2418, ⟨by decide, by decide⟩, by decide +kernel, by decide⟩, q2417, qs150, _, _, rfl, by decide⟩
theorem mv_X11_536 : xMv RX11 536 mX11_isMetByEnd 2 10 := ⟨⟨Or.inl q2419, q212, q2422, ⟨by decide, by decide⟩, by decide +kernel, by decide⟩, q2421, qs151, _, _, rfl, by decide⟩
theorem mv_X11_545 : xMv RX11 545 mX11_kindOf 2 10 := ⟨⟨Or.inl q2206, q212, q2209, ⟨by decide, by decide⟩, by decide +kernel, by decide⟩, q2208, qs106, _, _, rfl, by decide⟩
theorem mv_X11_548 : xMv RX11 548 mX11_namesOf 2 10 := ⟨⟨Or.inl q2245, q212, q2248, ⟨by decide, by decide⟩, by decide +kernel, by decide⟩, q2247, qs111, _, _, rfl, by decide⟩
theorem mv_X11_551 : xMv RX11 551 mX11_upOf 2 10 := ⟨⟨Or.inl q2249, q212, q2252, ⟨by decide, by decide⟩, by decide +kernel, by decide⟩, q2251, qs112, _, _, rfl, by decide⟩
theorem mv_X11_554 : xMv RX11 554 mX11_touchEntry 5 10 := ⟨⟨Or.inl q2253, q212, q2256, ⟨by decide, by decide⟩, by decide +kernel, by decide⟩, q2255, qs113, _, _, rfl, by decide⟩
theorem mv_X11_558 : xMv RX11 558 mX11_look 4 10 := ⟨⟨Or.inl q2257, q212, q2260, ⟨by decide, by decide⟩, by decide +kernel, by decide⟩, q2259, qs114, _, _, rfl, by decide⟩
theorem mv_X11_565 : xMv RX11 565 mX11_walk 3 10 := ⟨⟨Or.inl q2202, q212, q2205, ⟨by decide, by decide⟩, by decide +kernel, by decide⟩, q2204, qs105, _, _, rfl, by decide⟩
theorem mv_X11_581 : xMv RX11 581 mX11_freeSlot 2 10 := ⟨⟨Or.inl q2281, q212, q2284, ⟨by decide, by decide⟩, by decide +kernel, by decide⟩, q2283, qs119, _, _, rfl, by decide⟩
theorem mv_X11_584 : xMv RX11 584 mX12_over 5 11 := ⟨⟨Or.inl q2293, q213, q2296, ⟨by decide, by decide⟩, by decide +kernel, by decide⟩, q2294, q2295, _, _, rfl, by decide⟩
theorem mv_X11_588 : xMv RX11 588 mX11_hasNoName 2 10 := ⟨⟨Or.inl q2273, q212, q2276, ⟨by decide, by decide⟩, by decide +kernel, by decide⟩, q2275, qs117, _, _, rfl, by decide⟩
theorem mv_X11_591 : xMv RX11 591 mX11_freeInode 1 10 := ⟨⟨Or.inl q2277, q212, q2280, ⟨by decide, by decide⟩, by decide +kernel, by decide⟩, q2279, qs118, _, _, rfl, by decide⟩
theorem mv_X11_595 : xMv RX11 595 mX11_addEntry 6 10 := ⟨⟨Or.inl q2289, q212, q2292, ⟨by decide, by decide⟩, by decide +kernel, by decide⟩, q2291, qs121, _, _, rfl, by decide⟩
theorem mv_X11_599 : xMv RX11 599 mX11_row_2 1 10 := ⟨⟨Or.inl q2297, q212, q2300, ⟨by decide, by decide⟩, by decide +kernel, by decide⟩, q2299, qs122, _, _, rfl, by decide⟩
theorem mv_X11_608 : xMv RX11 608 mX11_isLive 1 10 := ⟨⟨Or.inl q2181, q212, q2184, ⟨by decide, by decide⟩, by decide +kernel, by decide⟩, q2183, qs100, _, _, rfl, by decide⟩
theorem mv_X11_611 : xMv RX11 611 mX11_finish 2 10 := ⟨⟨Or.inl q2332, q212, q2335, ⟨by decide, by decide⟩, by decide +kernel, by decide⟩, q2334, qs130, _, _, rfl, by decide⟩
theorem mv_X11_614 : xMv RX11 614 mX12_clear 0 11 := ⟨⟨Or.inl q1900, q213, q1903, ⟨by decide, by decide⟩, by decide +kernel, by decide⟩, q1901, q1902, _, _, rfl, by decide⟩
theorem mv_X11_617 : xMv RX11 617 mX11_own 2 10 := ⟨⟨Or.inl q2308, q212, q2311, ⟨by decide, by decide⟩, by decide +kernel, by decide⟩, q2310, qs124, _, _, rfl, by decide⟩
theorem mv_X11_620 : xMv RX11 620 mX11_takeTape 0 10 := ⟨⟨Or.inl q2169, q212, q2172, ⟨by decide, by decide⟩, by decide +kernel, by decide⟩, q2171, qs97, _, _, rfl, by decide⟩
theorem mv_X11_623 : xMv RX11 623 mX11_path 2 10 := ⟨⟨Or.inl q2173, q212, q2176, ⟨by decide, by decide⟩, by decide +kernel, by decide⟩, q2175, qs98, _, _, rfl, by decide⟩
theorem mv_X11_626 : xMv RX11 626 mX11_ready 3 10 := ⟨⟨Or.inl q2177, q212, q2180, ⟨by decide, by decide⟩, by decide +kernel, by decide⟩, q2179, qs99, _, _, rfl, by decide⟩
theorem mv_X11_630 : xMv RX11 630 mX11_mine 1 10 := ⟨⟨Or.inl q2186, q212, q2189, ⟨by decide, by decide⟩, by decide +kernel, by decide⟩, q2188, qs101, _, _, rfl, by decide⟩
theorem mv_X11_634 : xMv RX11 634 mX11_opened 3 10 := ⟨⟨Or.inl q2190, q212, q2193, ⟨by decide, by decide⟩, by decide +kernel, by decide⟩, q2192, qs102, _, _, rfl, by decide⟩
theorem mv_X11_637 : xMv RX11 637 mX11_done 2 10 := ⟨⟨Or.inl q2328, q212, q2331, ⟨by decide, by decide⟩, by decide +kernel, by decide⟩, q2330, qs129, _, _, rfl, by decide⟩
theorem mv_X11_640 : xMv RX11 640 mX11_freeDesc 2 10 := ⟨⟨Or.inl q2194, q212, q2197, ⟨by decide, by decide⟩, by decide +kernel, by decide⟩, q2196, qs103, _, _, rfl, by decide⟩
theorem mv_X11_643 : xMv RX11 643 mX11_endsInName 0 10 := ⟨⟨Or.inl q2198, q212, q2201, ⟨by decide, by decide⟩, by decide +kernel, by decide⟩, q2200, qs104, _, _, rfl, by decide⟩
theorem mv_X11_647 : xMv RX11 647 mX11_toTheLast 2 10 := ⟨⟨Or.inl q2265, q212, q2268, ⟨by decide, by decide⟩, by decide +kernel, by decide⟩, q2267, qs115, _, _, rfl, by decide⟩
theorem mv_X11_651 : xMv RX11 651 mX11_makeThere 3 10 := ⟨⟨Or.inl q2269, q212, q2272, ⟨by decide, by decide⟩, by decide +kernel, by decide⟩, q2271, qs116, _, _, rfl, by decide⟩
theorem mv_X11_654 : xMv RX11 654 mX11_setLength 3 10 := ⟨⟨Or.inl q2304, q212, q2307, ⟨by decide, by decide⟩, by decide +kernel, by decide⟩, q2306, qs123, _, _, rfl, by decide⟩
theorem mv_X11_658 : xMv RX11 658 mX11_newOpening 0 10 := ⟨⟨Or.inl q2312, q212, q2315, ⟨by decide, by decide⟩, by decide +kernel, by decide⟩, q2314, qs125, _, _, rfl, by decide⟩
theorem mv_X11_661 : xMv RX11 661 mX11_isD 1 10 := ⟨⟨Or.inl q2435, q212, q2438, ⟨by decide, by decide⟩, by decide +kernel, by decide⟩, q2437, qs154, _, _, rfl, by decide⟩
theorem mv_X11_664 : xMv RX11 664 mX11_closed 3 10 := ⟨⟨Or.inl q2439, q212, q2442, ⟨by decide, by decide⟩, by decide +kernel, by decide⟩, q2441, qs155, _, _, rfl, by decide⟩
theorem mv_X11_667 : xMv RX11 667 mX11_got 4 10 := ⟨⟨Or.inl q2447, q212, q2450, ⟨by decide, by decide⟩, by decide +kernel, by decide⟩, q2449, qs156, _, _, rfl, by decide⟩
theorem mv_X11_671 : xMv RX11 671 mX11_fromPipe 4 10 := ⟨⟨Or.inl q2451, q212, q2454, ⟨by decide, by decide⟩, by decide +kernel, by decide⟩, q2453, qs157, _, _, rfl, by decide⟩
theorem mv_X11_674 : xMv RX11 674 mX11_placeOf 2 10 := ⟨⟨Or.inl q2467, q212, q2470, ⟨by decide, by decide⟩, by decide +kernel, by decide⟩, q2469, qs161, _, _, rfl, by decide⟩
theorem mv_X11_677 : xMv RX11 677 mX11_lenOf 2 10 := ⟨⟨Or.inl q2471, q212, q2474, ⟨by decide, by decide⟩, by decide +kernel, by decide⟩, q2473, qs162, _, _, rfl, by decide⟩
theorem mv_X11_683 : xMv RX11 683 mX11_dataOf 2 10 := ⟨⟨Or.inl q2475, q212, q2478, ⟨by decide, by decide⟩, by decide +kernel, by decide⟩, q2477, qs163, _, _, rfl, by decide⟩
theorem mv_X11_686 : xMv RX11 686 mX11_setPlace 3 10 := ⟨⟨Or.inl q2479, q212, q2482, ⟨by decide, by decide⟩, by decide +kernel, by decide⟩, q2481, qs164, _, _, rfl, by decide⟩
theorem mv_X11_689 : xMv RX11 689 mX11_hasSide 4 10 := ⟨⟨Or.inl q2455, q212, q2458, ⟨by decide, by decide⟩, by decide +kernel, by decide⟩, q2457, qs158, _, _, rfl, by decide⟩
theorem mv_X11_693 : xMv RX11 693 mX11_ownPipe 2 10 := ⟨⟨Or.inl q2463, q212, q2466, ⟨by decide, by decide⟩, by decide +kernel, by decide⟩, q2465, qs160, _, _, rfl, by decide⟩
theorem mv_X11_697 : xMv RX11 697 mX11_wrote 3 10 := ⟨⟨Or.inl q2487, q212, q2490, ⟨by decide, by decide⟩, by decide +kernel, by decide⟩, q2489, qs165, _, _, rfl, by decide⟩
theorem mv_X11_700 : xMv RX11 700 mX11_toPipe 3 10 := ⟨⟨Or.inl q2491, q212, q2494, ⟨by decide, by decide⟩, by decide +kernel, by decide⟩, q2493, qs166, _, _, rfl, by decide⟩
theorem mv_X11_703 : xMv RX11 703 mX11_sought 4 10 := ⟨⟨Or.inl q2499, q212, q2502, ⟨by decide, by decide⟩, by decide +kernel, by decide⟩, q2501, qs167, _, _, rfl, by decide⟩
theorem mv_X11_706 : xMv RX11 706 mX11_cutTo 4 10 := ⟨⟨Or.inl q2507, q212, q2510, ⟨by decide, by decide⟩, by decide +kernel, by decide⟩, q2509, qs168, _, _, rfl, by decide⟩
theorem mv_X11_709 : xMv RX11 709 mX11_piped 2 10 := ⟨⟨Or.inl q2519, q212, q2522, ⟨by decide, by decide⟩, by decide +kernel, by decide⟩, q2521, qs169, _, _, rfl, by decide⟩
theorem mv_X11_712 : xMv RX11 712 mX11_isGone 1 10 := ⟨⟨Or.inl q2523, q212, q2526, ⟨by decide, by decide⟩, by decide +kernel, by decide⟩, q2525, qs170, _, _, rfl, by decide⟩
theorem mv_X11_715 : xMv RX11 715 mX11_madeDir 2 10 := ⟨⟨Or.inl q2531, q212, q2534, ⟨by decide, by decide⟩, by decide +kernel, by decide⟩, q2533, qs171, _, _, rfl, by decide⟩
theorem mv_X11_718 : xMv RX11 718 mX12_forget 2 11 := ⟨⟨Or.inl q2547, q213, q2550, ⟨by decide, by decide⟩, by decide +kernel, by decide⟩, q2548, q2549, _, _, rfl, by decide⟩
theorem mv_X11_721 : xMv RX11 721 mX11_unlinked 2 10 := ⟨⟨Or.inl q2539, q212, q2542, ⟨by decide, by decide⟩, by decide +kernel, by decide⟩, q2541, qs172, _, _, rfl, by decide⟩
theorem mv_X11_724 : xMv RX11 724 mX11_dropEntry 4 10 := ⟨⟨Or.inl q2543, q212, q2546, ⟨by decide, by decide⟩, by decide +kernel, by decide⟩, q2545, qs173, _, _, rfl, by decide⟩
theorem mv_X11_728 : xMv RX11 728 mX11_setNames 3 10 := ⟨⟨Or.inl q2552, q212, q2555, ⟨by decide, by decide⟩, by decide +kernel, by decide⟩, q2554, qs174, _, _, rfl, by decide⟩
theorem mv_X11_731 : xMv RX11 731 mX11_removed 2 10 := ⟨⟨Or.inl q2560, q212, q2563, ⟨by decide, by decide⟩, by decide +kernel, by decide⟩, q2562, qs175, _, _, rfl, by decide⟩
theorem mv_X11_734 : xMv RX11 734 mX11_entries 2 10 := ⟨⟨Or.inl q2564, q212, q2567, ⟨by decide, by decide⟩, by decide +kernel, by decide⟩, q2566, qs176, _, _, rfl, by decide⟩
theorem mv_X11_737 : xMv RX11 737 mX11_between 0 10 := ⟨⟨Or.inl q2572, q212, q2575, ⟨by decide, by decide⟩, by decide +kernel, by decide⟩, q2574, qs177, _, _, rfl, by decide⟩
theorem mv_X11_740 : xMv RX11 740 mX11_linked 3 10 := ⟨⟨Or.inl q2576, q212, q2579, ⟨by decide, by decide⟩, by decide +kernel, by decide⟩, q2578, qs178, _, _, rfl, by decide⟩
theorem mv_X11_743 : xMv RX11 743 mX11_renamed 3 10 := ⟨⟨Or.inl q2584, q212, q2587, ⟨by decide, by decide⟩, by decide +kernel, by decide⟩, q2586, qs179, _, _, rfl, by decide⟩
theorem mv_X11_746 : xMv RX11 746 mX11_looked 3 10 := ⟨⟨Or.inl q2592, q212, q2595, ⟨by decide, by decide⟩, by decide +kernel, by decide⟩, q2594, qs180, _, _, rfl, by decide⟩
theorem mv_X11_749 : xMv RX11 749 mX11_listed 2 10 := ⟨⟨Or.inl q2600, q212, q2603, ⟨by decide, by decide⟩, by decide +kernel, by decide⟩, q2602, qs181, _, _, rfl, by decide⟩
theorem ms_X11_752 : xMs RX11 752 mJ4_compareUnsigned 2 := ⟨⟨Or.inl q2604, q210, q2606, ⟨by decide, by decide⟩, by decide +kernel, by decide⟩, q2605⟩
theorem mv_X11_758 : xMv RX11 758 mX11_forked 2 10 := ⟨⟨Or.inl q2619, q212, q2622, ⟨by decide, by decide⟩, by decide +kernel, by decide⟩, q2621, qs182, _, _, rfl, by decide⟩
theorem mv_X11_761 : xMv RX11 761 mX11_touchEnd 2 10 := ⟨⟨Or.inl q2627, q212, q2630, ⟨by decide, by decide⟩, by decide +kernel, by decide⟩, q2629, qs183, _, _, rfl, by decide⟩
theorem mv_X11_764 : xMv RX11 764 mX11_awaited 2 10 := ⟨⟨Or.inl q2635, q212, q2638, ⟨by decide, by decide⟩, by decide +kernel, by decide⟩, q2637, qs184, _, _, rfl, by decide⟩
theorem mv_X11_767 : xMv RX11 767 mX11_killed 4 10 := ⟨⟨Or.inl q2643, q212, q2646, ⟨by decide, by decide⟩, by decide +kernel, by decide⟩, q2645, qs185, _, _, rfl, by decide⟩
theorem mv_X11_775 : xMv RX11 775 mX11_num 1 10 := ⟨⟨Or.inl q2675, q212, q2678, ⟨by decide, by decide⟩, by decide +kernel, by decide⟩, q2677, qs186, _, _, rfl, by decide⟩
theorem mv_X11_778 : xMv RX11 778 mX11_headIsRight 0 10 := ⟨⟨Or.inl q2679, q212, q2682, ⟨by decide, by decide⟩, by decide +kernel, by decide⟩, q2681, qs187, _, _, rfl, by decide⟩
theorem mv_X11_781 : xMv RX11 781 mX11_readTree 0 10 := ⟨⟨Or.inl q2683, q212, q2686, ⟨by decide, by decide⟩, by decide +kernel, by decide⟩, q2685, qs188, _, _, rfl, by decide⟩
theorem mv_X11_784 : xMv RX11 784 mX11_readInode 1 10 := ⟨⟨Or.inl q2687, q212, q2690, ⟨by decide, by decide⟩, by decide +kernel, by decide⟩, q2689, qs189, _, _, rfl, by decide⟩
theorem mv_X11_787 : xMv RX11 787 mX11_judge 0 10 := ⟨⟨Or.inl q2699, q212, q2702, ⟨by decide, by decide⟩, by decide +kernel, by decide⟩, q2701, qs192, _, _, rfl, by decide⟩
theorem mv_X11_790 : xMv RX11 790 mX11_takeBlock 1 10 := ⟨⟨Or.inl q2691, q212, q2694, ⟨by decide, by decide⟩, by decide +kernel, by decide⟩, q2693, qs190, _, _, rfl, by decide⟩
theorem mv_X11_793 : xMv RX11 793 mX11_readSlots 1 10 := ⟨⟨Or.inl q2695, q212, q2698, ⟨by decide, by decide⟩, by decide +kernel, by decide⟩, q2697, qs191, _, _, rfl, by decide⟩
theorem mv_X11_796 : xMv RX11 796 mX11_many 1 10 := ⟨⟨Or.inl q2719, q212, q2722, ⟨by decide, by decide⟩, by decide +kernel, by decide⟩, q2721, qs193, _, _, rfl, by decide⟩
theorem mv_X11_800 : xMv RX11 800 mX11_freeBlocks 0 10 := ⟨⟨Or.inl q2727, q212, q2730, ⟨by decide, by decide⟩, by decide +kernel, by decide⟩, q2729, qs194, _, _, rfl, by decide⟩
theorem mv_X12_161 : xMv RX12 161 mX12_overAt 2 11 := ⟨⟨Or.inl q2551, q213, q2264, ⟨by decide, by decide⟩, by decide +kernel, by decide⟩, q2262, q2263, _, _, rfl, by decide⟩
theorem mv_X12_165 : xMv RX12 165 mX12_markAt 3 11 := ⟨⟨Or.inl q2238, q213, q2221, ⟨by decide, by decide⟩, by decide +kernel, by decide⟩, q2219, q2220, _, _, rfl, by decide⟩
theorem mi_J9_7 : xMi RJ9 7 mJ8_init 1 := ⟨⟨Or.inl q1586, q217, q1588, ⟨by decide, by decide⟩, by decide +kernel, by decide⟩, q1587, rfl, rfl, rfl⟩
theorem mi_J1_1 : xMi RJ1 1 mJ0_init 0 := ⟨⟨Or.inl q337, q199, q309, ⟨by decide, by decide⟩, by decide +kernel, by decide⟩, q308, rfl, rfl, rfl⟩
theorem mi_J1_7 : xMi RJ1 7 mJ0_init_2 1 := ⟨⟨Or.inl q1595, q199, q1597, ⟨by decide, by decide⟩, by decide +kernel, by decide⟩, q1596, rfl, rfl, rfl⟩
theorem mi_J5_1 : xMi RJ5 1 mJ2_init 0 := ⟨⟨Or.inl q1566, q201, q333, ⟨by decide, by decide⟩, by decide +kernel, by decide⟩, q332, rfl, rfl, rfl⟩
theorem mi_J6_1 : xMi RJ6 1 mJ2_init 0 := ⟨⟨Or.inl q1111, q201, q333, ⟨by decide, by decide⟩, by decide +kernel, by decide⟩, q332, rfl, rfl, rfl⟩
theorem mi_J8_1 : xMi RJ8 1 mJ2_init 0 := ⟨⟨Or.inl q1633, q201, q333, ⟨by decide, by decide⟩, by decide +kernel, by decide⟩, q332, rfl, rfl, rfl⟩
theorem mi_J8_7 : xMi RJ8 7 mJ2_init_2 1 := ⟨⟨Or.inl q1589, q201, q1591, ⟨by decide, by decide⟩, by decide +kernel, by decide⟩, q1590, rfl, rfl, rfl⟩
theorem ms_J4_302 : xMs RJ4 302 mJ4_compare 2 := ⟨⟨Or.inl q2608, q210, q2610, ⟨by decide, by decide⟩, by decide +kernel, by decide⟩, q2609⟩
theorem mi_J2_1 : xMi RJ2 1 mJ1_init 0 := ⟨⟨Or.inl q334, q200, q336, ⟨by decide, by decide⟩, by decide +kernel, by decide⟩, q335, rfl, rfl, rfl⟩
theorem mi_J2_7 : xMi RJ2 7 mJ1_init_2 1 := ⟨⟨Or.inl q1592, q200, q1594, ⟨by decide, by decide⟩, by decide +kernel, by decide⟩, q1593, rfl, rfl, rfl⟩
theorem mi_X1_18 : xMi RX1 18 mX2_init 0 := ⟨⟨Or.inr ⟨_, List.mem_filter.mpr ⟨q230, rfl⟩⟩, q197, q232, ⟨by decide, by decide⟩, by decide +kernel, by decide⟩, q231, rfl, rfl, rfl⟩
theorem mi_X1_45 : xMi RX1 45 mX3_init 0 := ⟨⟨Or.inr ⟨_, List.mem_filter.mpr ⟨q252, rfl⟩⟩, q198, q254, ⟨by decide, by decide⟩, by decide +kernel, by decide⟩, q253, rfl, rfl, rfl⟩
theorem mi_X1_52 : xMi RX1 52 mX4_init 0 := ⟨⟨Or.inr ⟨_, List.mem_filter.mpr ⟨q328, rfl⟩⟩, q202, q330, ⟨by decide, by decide⟩, by decide +kernel, by decide⟩, q329, rfl, rfl, rfl⟩
theorem mi_X1_73 : xMi RX1 73 mX5_init 1 := ⟨⟨Or.inr ⟨_, List.mem_filter.mpr ⟨q357, rfl⟩⟩, q203, q359, ⟨by decide, by decide⟩, by decide +kernel, by decide⟩, q358, rfl, rfl, rfl⟩
theorem mi_X1_121 : xMi RX1 121 mX8_init 0 := ⟨⟨Or.inr ⟨_, List.mem_filter.mpr ⟨q553, rfl⟩⟩, q207, q555, ⟨by decide, by decide⟩, by decide +kernel, by decide⟩, q554, rfl, rfl, rfl⟩
theorem mi_X1_122 : xMi RX1 122 mX9_init 0 := ⟨⟨Or.inr ⟨_, List.mem_filter.mpr ⟨q584, rfl⟩⟩, q208, q586, ⟨by decide, by decide⟩, by decide +kernel, by decide⟩, q585, rfl, rfl, rfl⟩
theorem mv_X5_56 : xMv RX5 56 mX1_access 5 0 := ⟨⟨Or.inr ⟨_, List.mem_filter.mpr ⟨q1029, rfl⟩⟩, q196, q912, ⟨by decide, by decide⟩, by decide +kernel, by decide⟩, q911, qs12, _, _, rfl, by decide⟩
theorem mv_X5_89 : xMv RX5 89 mX1_reads 2 0 := ⟨⟨Or.inr ⟨_, List.mem_filter.mpr ⟨q905, rfl⟩⟩, q196, q908, ⟨by decide, by decide⟩, by decide +kernel, by decide⟩, q907, qs11, _, _, rfl, by decide⟩
theorem mi_X11_108 : xMi RX11 108 mX12_init 0 := ⟨⟨Or.inr ⟨_, List.mem_filter.mpr ⟨q1687, rfl⟩⟩, q213, q1689, ⟨by decide, by decide⟩, by decide +kernel, by decide⟩, q1688, rfl, rfl, rfl⟩
theorem ms_X12_152 : xMs RX12 152 mX11_wider 1 := ⟨⟨Or.inr ⟨_, List.mem_filter.mpr ⟨q2239, rfl⟩⟩, q212, q2241, ⟨by decide, by decide⟩, by decide +kernel, by decide⟩, q2240⟩
theorem ms_X12_158 : xMs RX12 158 mX11_wider_2 1 := ⟨⟨Or.inr ⟨_, List.mem_filter.mpr ⟨q2242, rfl⟩⟩, q212, q2244, ⟨by decide, by decide⟩, by decide +kernel, by decide⟩, q2243⟩
