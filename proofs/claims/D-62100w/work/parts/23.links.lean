theorem fw_Line_18 : gFw R_Line 18 "FourWayKernel$Line" "first" "LFourWayKernel$Cell;" := Or.inl (gtbl_all 91 (by decide +kernel) rfl)
theorem fd_Line_18_Line : gFd R_Line 18 F_Line 0 := ⟨"FourWayKernel$Line", fw_Line_18, Or.inl rfl⟩
theorem fl_Line_18 : Cond.fieldLink R_Line 18 R_Line "first" "LFourWayKernel$Cell;" ∈ gtbl := (gtbl_all 91 (by decide +kernel) rfl)
theorem fw_Line_12 : gFw R_Line 12 "FourWayKernel$Line" "last" "LFourWayKernel$Cell;" := Or.inl (gtbl_all 92 (by decide +kernel) rfl)
theorem fd_Line_12_Line : gFd R_Line 12 F_Line 1 := ⟨"FourWayKernel$Line", fw_Line_12, Or.inl rfl⟩
theorem fl_Line_12 : Cond.fieldLink R_Line 12 R_Line "last" "LFourWayKernel$Cell;" ∈ gtbl := (gtbl_all 92 (by decide +kernel) rfl)
theorem fw_Line_24 : gFw R_Line 24 "FourWayKernel$Line" "size" "I" := Or.inl (gtbl_all 93 (by decide +kernel) rfl)
theorem fd_Line_24_Line : gFd R_Line 24 F_Line 2 := ⟨"FourWayKernel$Line", fw_Line_24, Or.inl rfl⟩
theorem fl_Line_24 : Cond.fieldLink R_Line 24 R_Line "size" "I" ∈ gtbl := (gtbl_all 93 (by decide +kernel) rfl)
theorem fw_Grant_36 : gFw R_Grant 36 "FourWayKernel$Line" "size" "I" := Or.inr ⟨"FourWayKernel", (List.mem_of_getElem? (i := 94) (by decide +kernel))⟩
theorem fd_Grant_36_Line : gFd R_Grant 36 F_Line 2 := ⟨"FourWayKernel$Line", fw_Grant_36, Or.inl rfl⟩
theorem fw_Ker_158 : gFw R_Ker 158 "FourWayKernel$Line" "size" "I" := Or.inr ⟨"FourWayKernel", (List.mem_of_getElem? (i := 95) (by decide +kernel))⟩
theorem fd_Ker_158_Line : gFd R_Ker 158 F_Line 2 := ⟨"FourWayKernel$Line", fw_Ker_158, Or.inl rfl⟩
theorem fw_Processor_25 : gFw R_Processor 25 "FourWayKernel$Processor" "number" "I" := Or.inl (gtbl_all 104 (by decide +kernel) rfl)
theorem fd_Processor_25_Processor : gFd R_Processor 25 F_Processor 0 := ⟨"FourWayKernel$Processor", fw_Processor_25, Or.inl rfl⟩
theorem fl_Processor_25 : Cond.fieldLink R_Processor 25 R_Processor "number" "I" ∈ gtbl := (gtbl_all 104 (by decide +kernel) rfl)
theorem fw_Processor_29 : gFw R_Processor 29 "FourWayKernel$Processor" "earliest" "LFourWayKernel$Translation;" := Or.inl (gtbl_all 105 (by decide +kernel) rfl)
theorem fd_Processor_29_Processor : gFd R_Processor 29 F_Processor 1 := ⟨"FourWayKernel$Processor", fw_Processor_29, Or.inl rfl⟩
theorem fl_Processor_29 : Cond.fieldLink R_Processor 29 R_Processor "earliest" "LFourWayKernel$Translation;" ∈ gtbl := (gtbl_all 105 (by decide +kernel) rfl)
theorem fw_Processor_41 : gFw R_Processor 41 "FourWayKernel$Processor" "held" "I" := Or.inl (gtbl_all 106 (by decide +kernel) rfl)
theorem fd_Processor_41_Processor : gFd R_Processor 41 F_Processor 2 := ⟨"FourWayKernel$Processor", fw_Processor_41, Or.inl rfl⟩
theorem fl_Processor_41 : Cond.fieldLink R_Processor 41 R_Processor "held" "I" ∈ gtbl := (gtbl_all 106 (by decide +kernel) rfl)
theorem fw_Processor_9 : gFw R_Processor 9 "FourWayKernel$Processor" "room" "[I" := Or.inl (gtbl_all 107 (by decide +kernel) rfl)
theorem fd_Processor_9_Processor : gFd R_Processor 9 F_Processor 3 := ⟨"FourWayKernel$Processor", fw_Processor_9, Or.inl rfl⟩
theorem fl_Processor_9 : Cond.fieldLink R_Processor 9 R_Processor "room" "[I" ∈ gtbl := (gtbl_all 107 (by decide +kernel) rfl)
theorem fw_Grant_61 : gFw R_Grant 61 "FourWayKernel$Processor" "room" "[I" := Or.inr ⟨"FourWayKernel", (List.mem_of_getElem? (i := 108) (by decide +kernel))⟩
theorem fd_Grant_61_Processor : gFd R_Grant 61 F_Processor 3 := ⟨"FourWayKernel$Processor", fw_Grant_61, Or.inl rfl⟩
theorem fw_Revoke_119 : gFw R_Revoke 119 "FourWayKernel$Processor" "room" "[I" := Or.inr ⟨"FourWayKernel", (List.mem_of_getElem? (i := 109) (by decide +kernel))⟩
theorem fd_Revoke_119_Processor : gFd R_Revoke 119 F_Processor 3 := ⟨"FourWayKernel$Processor", fw_Revoke_119, Or.inl rfl⟩
theorem fw_Grant_24 : gFw R_Grant 24 "FourWayKernel$Processor" "roomed" "I" := Or.inr ⟨"FourWayKernel", (List.mem_of_getElem? (i := 110) (by decide +kernel))⟩
theorem fd_Grant_24_Processor : gFd R_Grant 24 F_Processor 4 := ⟨"FourWayKernel$Processor", fw_Grant_24, Or.inl rfl⟩
theorem fw_Revoke_116 : gFw R_Revoke 116 "FourWayKernel$Processor" "roomed" "I" := Or.inr ⟨"FourWayKernel", (List.mem_of_getElem? (i := 111) (by decide +kernel))⟩
theorem fd_Revoke_116_Processor : gFd R_Revoke 116 F_Processor 4 := ⟨"FourWayKernel$Processor", fw_Revoke_116, Or.inl rfl⟩
theorem fw_Ker_196 : gFw R_Ker 196 "FourWayKernel$Processor" "roomed" "I" := Or.inr ⟨"FourWayKernel", (List.mem_of_getElem? (i := 112) (by decide +kernel))⟩
theorem fd_Ker_196_Processor : gFd R_Ker 196 F_Processor 4 := ⟨"FourWayKernel$Processor", fw_Ker_196, Or.inl rfl⟩
theorem fw_Processor_18 : gFw R_Processor 18 "FourWayKernel$Processor" "mail" "LFourWayKernel$Line;" := Or.inl (gtbl_all 113 (by decide +kernel) rfl)
theorem fd_Processor_18_Processor : gFd R_Processor 18 F_Processor 5 := ⟨"FourWayKernel$Processor", fw_Processor_18, Or.inl rfl⟩
theorem fl_Processor_18 : Cond.fieldLink R_Processor 18 R_Processor "mail" "LFourWayKernel$Line;" ∈ gtbl := (gtbl_all 113 (by decide +kernel) rfl)
theorem fw_Revoke_98 : gFw R_Revoke 98 "FourWayKernel$Processor" "mail" "LFourWayKernel$Line;" := Or.inr ⟨"FourWayKernel", (List.mem_of_getElem? (i := 114) (by decide +kernel))⟩
theorem fd_Revoke_98_Processor : gFd R_Revoke 98 F_Processor 5 := ⟨"FourWayKernel$Processor", fw_Revoke_98, Or.inl rfl⟩
theorem fw_Ker_100 : gFw R_Ker 100 "FourWayKernel$Processor" "mail" "LFourWayKernel$Line;" := Or.inr ⟨"FourWayKernel", (List.mem_of_getElem? (i := 115) (by decide +kernel))⟩
theorem fd_Ker_100_Processor : gFd R_Ker 100 F_Processor 5 := ⟨"FourWayKernel$Processor", fw_Ker_100, Or.inl rfl⟩
theorem fw_Processor_22 : gFw R_Processor 22 "FourWayKernel$Processor" "queue" "LFourWayKernel$Line;" := Or.inl (gtbl_all 116 (by decide +kernel) rfl)
theorem fd_Processor_22_Processor : gFd R_Processor 22 F_Processor 6 := ⟨"FourWayKernel$Processor", fw_Processor_22, Or.inl rfl⟩
theorem fl_Processor_22 : Cond.fieldLink R_Processor 22 R_Processor "queue" "LFourWayKernel$Line;" ∈ gtbl := (gtbl_all 116 (by decide +kernel) rfl)
theorem fw_Ker_55 : gFw R_Ker 55 "FourWayKernel$Processor" "queue" "LFourWayKernel$Line;" := Or.inr ⟨"FourWayKernel", (List.mem_of_getElem? (i := 117) (by decide +kernel))⟩
theorem fd_Ker_55_Processor : gFd R_Ker 55 F_Processor 6 := ⟨"FourWayKernel$Processor", fw_Ker_55, Or.inl rfl⟩
theorem fw_Ker_125 : gFw R_Ker 125 "FourWayKernel$Processor" "current" "LFourWayKernel$Task;" := Or.inr ⟨"FourWayKernel", (List.mem_of_getElem? (i := 118) (by decide +kernel))⟩
theorem fd_Ker_125_Processor : gFd R_Ker 125 F_Processor 7 := ⟨"FourWayKernel$Processor", fw_Ker_125, Or.inl rfl⟩
theorem fs_Int_191 : Cond.fieldLink R_Int 191 "java/lang/Integer$IntegerCache" "high" "I" ∈ gtbl := (gtbl_all 143 (by decide +kernel) rfl)
theorem fs_Int_195 : Cond.fieldLink R_Int 195 "java/lang/Integer$IntegerCache" "cache" "[Ljava/lang/Integer;" ∈ gtbl := (gtbl_all 145 (by decide +kernel) rfl)
theorem fs_Int_205 : Cond.fieldLink R_Int 205 "java/lang/Integer" "value" "I" ∈ gtbl := (gtbl_all 156 (by decide +kernel) rfl)
theorem fw_Cell_7 : gFw R_Cell 7 "FourWayKernel$Cell" "value" "Ljava/lang/Object;" := Or.inl (gtbl_all 170 (by decide +kernel) rfl)
theorem fd_Cell_7_Cell : gFd R_Cell 7 F_Cell 0 := ⟨"FourWayKernel$Cell", fw_Cell_7, Or.inl rfl⟩
theorem fl_Cell_7 : Cond.fieldLink R_Cell 7 R_Cell "value" "Ljava/lang/Object;" ∈ gtbl := (gtbl_all 170 (by decide +kernel) rfl)
theorem fw_Line_28 : gFw R_Line 28 "FourWayKernel$Cell" "value" "Ljava/lang/Object;" := Or.inr ⟨"FourWayKernel", (List.mem_of_getElem? (i := 171) (by decide +kernel))⟩
theorem fd_Line_28_Cell : gFd R_Line 28 F_Cell 0 := ⟨"FourWayKernel$Cell", fw_Line_28, Or.inl rfl⟩
theorem fw_Line_21 : gFw R_Line 21 "FourWayKernel$Cell" "next" "LFourWayKernel$Cell;" := Or.inr ⟨"FourWayKernel", (List.mem_of_getElem? (i := 172) (by decide +kernel))⟩
theorem fd_Line_21_Cell : gFd R_Line 21 F_Cell 1 := ⟨"FourWayKernel$Cell", fw_Line_21, Or.inl rfl⟩
theorem fw_Machine_14 : gFw R_Machine 14 "FourWayKernel$Machine" "processors" "[LFourWayKernel$Processor;" := Or.inl (gtbl_all 178 (by decide +kernel) rfl)
theorem fd_Machine_14_Machine : gFd R_Machine 14 F_Machine 0 := ⟨"FourWayKernel$Machine", fw_Machine_14, Or.inl rfl⟩
theorem fl_Machine_14 : Cond.fieldLink R_Machine 14 R_Machine "processors" "[LFourWayKernel$Processor;" ∈ gtbl := (gtbl_all 178 (by decide +kernel) rfl)
theorem fw_Ker_23 : gFw R_Ker 23 "FourWayKernel$Machine" "processors" "[LFourWayKernel$Processor;" := Or.inr ⟨"FourWayKernel", (List.mem_of_getElem? (i := 179) (by decide +kernel))⟩
theorem fd_Ker_23_Machine : gFd R_Ker 23 F_Machine 0 := ⟨"FourWayKernel$Machine", fw_Ker_23, Or.inl rfl⟩
theorem fw_Revoke_59 : gFw R_Revoke 59 "FourWayKernel$Machine" "processors" "[LFourWayKernel$Processor;" := Or.inr ⟨"FourWayKernel", (List.mem_of_getElem? (i := 180) (by decide +kernel))⟩
theorem fd_Revoke_59_Machine : gFd R_Revoke 59 F_Machine 0 := ⟨"FourWayKernel$Machine", fw_Revoke_59, Or.inl rfl⟩
theorem fw_Machine_22 : gFw R_Machine 22 "FourWayKernel$Machine" "groups" "[LFourWayKernel$Group;" := Or.inl (gtbl_all 181 (by decide +kernel) rfl)
theorem fd_Machine_22_Machine : gFd R_Machine 22 F_Machine 1 := ⟨"FourWayKernel$Machine", fw_Machine_22, Or.inl rfl⟩
theorem fl_Machine_22 : Cond.fieldLink R_Machine 22 R_Machine "groups" "[LFourWayKernel$Group;" ∈ gtbl := (gtbl_all 181 (by decide +kernel) rfl)
theorem fw_Access_41 : gFw R_Access 41 "FourWayKernel$Machine" "groups" "[LFourWayKernel$Group;" := Or.inr ⟨"FourWayKernel", (List.mem_of_getElem? (i := 182) (by decide +kernel))⟩
theorem fd_Access_41_Machine : gFd R_Access 41 F_Machine 1 := ⟨"FourWayKernel$Machine", fw_Access_41, Or.inl rfl⟩
theorem fw_Machine_29 : gFw R_Machine 29 "FourWayKernel$Machine" "pool" "LFourWayKernel$Line;" := Or.inl (gtbl_all 183 (by decide +kernel) rfl)
theorem fd_Machine_29_Machine : gFd R_Machine 29 F_Machine 2 := ⟨"FourWayKernel$Machine", fw_Machine_29, Or.inl rfl⟩
theorem fl_Machine_29 : Cond.fieldLink R_Machine 29 R_Machine "pool" "LFourWayKernel$Line;" ∈ gtbl := (gtbl_all 183 (by decide +kernel) rfl)
theorem fw_Grant_30 : gFw R_Grant 30 "FourWayKernel$Machine" "pool" "LFourWayKernel$Line;" := Or.inr ⟨"FourWayKernel", (List.mem_of_getElem? (i := 184) (by decide +kernel))⟩
theorem fd_Grant_30_Machine : gFd R_Grant 30 F_Machine 2 := ⟨"FourWayKernel$Machine", fw_Grant_30, Or.inl rfl⟩
theorem fw_Revoke_122 : gFw R_Revoke 122 "FourWayKernel$Machine" "pool" "LFourWayKernel$Line;" := Or.inr ⟨"FourWayKernel", (List.mem_of_getElem? (i := 185) (by decide +kernel))⟩
theorem fd_Revoke_122_Machine : gFd R_Revoke 122 F_Machine 2 := ⟨"FourWayKernel$Machine", fw_Revoke_122, Or.inl rfl⟩
theorem fw_Ker_199 : gFw R_Ker 199 "FourWayKernel$Machine" "pool" "LFourWayKernel$Line;" := Or.inr ⟨"FourWayKernel", (List.mem_of_getElem? (i := 186) (by decide +kernel))⟩
theorem fd_Ker_199_Machine : gFd R_Ker 199 F_Machine 2 := ⟨"FourWayKernel$Machine", fw_Ker_199, Or.inl rfl⟩
theorem fw_Machine_33 : gFw R_Machine 33 "FourWayKernel$Machine" "words" "[I" := Or.inl (gtbl_all 187 (by decide +kernel) rfl)
theorem fd_Machine_33_Machine : gFd R_Machine 33 F_Machine 3 := ⟨"FourWayKernel$Machine", fw_Machine_33, Or.inl rfl⟩
theorem fl_Machine_33 : Cond.fieldLink R_Machine 33 R_Machine "words" "[I" ∈ gtbl := (gtbl_all 187 (by decide +kernel) rfl)
theorem fw_Access_65 : gFw R_Access 65 "FourWayKernel$Machine" "words" "[I" := Or.inr ⟨"FourWayKernel", (List.mem_of_getElem? (i := 188) (by decide +kernel))⟩
theorem fd_Access_65_Machine : gFd R_Access 65 F_Machine 3 := ⟨"FourWayKernel$Machine", fw_Access_65, Or.inl rfl⟩
theorem fw_Grant_75 : gFw R_Grant 75 "FourWayKernel$Machine" "words" "[I" := Or.inr ⟨"FourWayKernel", (List.mem_of_getElem? (i := 189) (by decide +kernel))⟩
theorem fd_Grant_75_Machine : gFd R_Grant 75 F_Machine 3 := ⟨"FourWayKernel$Machine", fw_Grant_75, Or.inl rfl⟩
theorem fw_Ker_192 : gFw R_Ker 192 "FourWayKernel$Machine" "words" "[I" := Or.inr ⟨"FourWayKernel", (List.mem_of_getElem? (i := 190) (by decide +kernel))⟩
theorem fd_Ker_192_Machine : gFd R_Ker 192 F_Machine 3 := ⟨"FourWayKernel$Machine", fw_Ker_192, Or.inl rfl⟩
theorem fw_Locked_29 : gFw R_Locked 29 "FourWayKernel$Machine" "next" "I" := Or.inr ⟨"FourWayKernel", (List.mem_of_getElem? (i := 191) (by decide +kernel))⟩
theorem fd_Locked_29_Machine : gFd R_Locked 29 F_Machine 4 := ⟨"FourWayKernel$Machine", fw_Locked_29, Or.inl rfl⟩
theorem fw_Ker_202 : gFw R_Ker 202 "FourWayKernel$Machine" "next" "I" := Or.inr ⟨"FourWayKernel", (List.mem_of_getElem? (i := 192) (by decide +kernel))⟩
theorem fd_Ker_202_Machine : gFd R_Ker 202 F_Machine 4 := ⟨"FourWayKernel$Machine", fw_Ker_202, Or.inl rfl⟩
theorem fw_Locked_44 : gFw R_Locked 44 "FourWayKernel$Machine" "serving" "I" := Or.inr ⟨"FourWayKernel", (List.mem_of_getElem? (i := 193) (by decide +kernel))⟩
theorem fd_Locked_44_Machine : gFd R_Locked 44 F_Machine 5 := ⟨"FourWayKernel$Machine", fw_Locked_44, Or.inl rfl⟩
theorem fw_Ker_205 : gFw R_Ker 205 "FourWayKernel$Machine" "serving" "I" := Or.inr ⟨"FourWayKernel", (List.mem_of_getElem? (i := 194) (by decide +kernel))⟩
theorem fd_Ker_205_Machine : gFd R_Ker 205 F_Machine 5 := ⟨"FourWayKernel$Machine", fw_Ker_205, Or.inl rfl⟩
theorem fs_AL_39 : Cond.fieldLink R_AL 39 "java/util/ArrayList" "DEFAULTCAPACITY_EMPTY_ELEMENTDATA" "[Ljava/lang/Object;" ∈ gtbl := (gtbl_all 220 (by decide +kernel) rfl)
theorem fw_AL_9 : gFw R_AL 9 "java/util/ArrayList" "elementData" "[Ljava/lang/Object;" := Or.inl (gtbl_all 222 (by decide +kernel) rfl)
theorem fd_AL_9_AL : gFd R_AL 9 F_AL 0 := ⟨"java/util/ArrayList", fw_AL_9, Or.inl rfl⟩
theorem fl_AL_9 : Cond.fieldLink R_AL 9 R_AL "elementData" "[Ljava/lang/Object;" ∈ gtbl := (gtbl_all 222 (by decide +kernel) rfl)
theorem fw_AL_48 : gFw R_AL 48 "java/util/ArrayList" "size" "I" := Or.inl (gtbl_all 223 (by decide +kernel) rfl)
theorem fd_AL_48_AL : gFd R_AL 48 F_AL 1 := ⟨"java/util/ArrayList", fw_AL_48, Or.inl rfl⟩
theorem fl_AL_48 : Cond.fieldLink R_AL 48 R_AL "size" "I" ∈ gtbl := (gtbl_all 223 (by decide +kernel) rfl)
theorem fw_AbL_7 : gFw R_AbL 7 "java/util/AbstractList" "modCount" "I" := Or.inl (gtbl_all 224 (by decide +kernel) rfl)
theorem fd_AbL_7_AL : gFd R_AbL 7 F_AL 2 := ⟨"java/util/AbstractList", fw_AbL_7, Or.inl rfl⟩
theorem fl_AbL_7 : Cond.fieldLink R_AbL 7 R_AbL "modCount" "I" ∈ gtbl := (gtbl_all 224 (by decide +kernel) rfl)
theorem fw_AL_63 : gFw R_AL 63 "java/util/ArrayList" "modCount" "I" := Or.inl (gtbl_all 225 (by decide +kernel) rfl)
theorem fd_AL_63_AL : gFd R_AL 63 F_AL 2 := ⟨"java/util/ArrayList", fw_AL_63, Or.inr (gtbl_all 226 (by decide +kernel) rfl)⟩
theorem fl_AL_63 : Cond.fieldLink R_AL 63 R_AL "modCount" "I" ∈ gtbl := (gtbl_all 225 (by decide +kernel) rfl)
theorem fw_Ker_10 : gFw R_Ker 10 "FourWayKernel" "machine" "LFourWayKernel$Machine;" := Or.inl (gtbl_all 234 (by decide +kernel) rfl)
theorem fd_Ker_10_Ker : gFd R_Ker 10 F_Ker 0 := ⟨"FourWayKernel", fw_Ker_10, Or.inl rfl⟩
theorem fl_Ker_10 : Cond.fieldLink R_Ker 10 R_Ker "machine" "LFourWayKernel$Machine;" ∈ gtbl := (gtbl_all 234 (by decide +kernel) rfl)
theorem fw_Ker_19 : gFw R_Ker 19 "FourWayKernel" "tasks" "Ljava/util/ArrayList;" := Or.inl (gtbl_all 235 (by decide +kernel) rfl)
theorem fd_Ker_19_Ker : gFd R_Ker 19 F_Ker 1 := ⟨"FourWayKernel", fw_Ker_19, Or.inl rfl⟩
theorem fl_Ker_19 : Cond.fieldLink R_Ker 19 R_Ker "tasks" "Ljava/util/ArrayList;" ∈ gtbl := (gtbl_all 235 (by decide +kernel) rfl)
theorem fw_Ker_96 : gFw R_Ker 96 "FourWayKernel" "steps" "I" := Or.inl (gtbl_all 236 (by decide +kernel) rfl)
theorem fd_Ker_96_Ker : gFd R_Ker 96 F_Ker 2 := ⟨"FourWayKernel", fw_Ker_96, Or.inl rfl⟩
theorem fl_Ker_96 : Cond.fieldLink R_Ker 96 R_Ker "steps" "I" ∈ gtbl := (gtbl_all 236 (by decide +kernel) rfl)
theorem fw_Ker_151 : gFw R_Ker 151 "FourWayKernel" "finished" "I" := Or.inl (gtbl_all 237 (by decide +kernel) rfl)
theorem fd_Ker_151_Ker : gFd R_Ker 151 F_Ker 3 := ⟨"FourWayKernel", fw_Ker_151, Or.inl rfl⟩
theorem fl_Ker_151 : Cond.fieldLink R_Ker 151 R_Ker "finished" "I" ∈ gtbl := (gtbl_all 237 (by decide +kernel) rfl)
theorem fw_Task_16 : gFw R_Task 16 "FourWayKernel$Task" "number" "I" := Or.inl (gtbl_all 267 (by decide +kernel) rfl)
theorem fd_Task_16_Task : gFd R_Task 16 F_Task 0 := ⟨"FourWayKernel$Task", fw_Task_16, Or.inl rfl⟩
theorem fl_Task_16 : Cond.fieldLink R_Task 16 R_Task "number" "I" ∈ gtbl := (gtbl_all 267 (by decide +kernel) rfl)
theorem fw_Ker_173 : gFw R_Ker 173 "FourWayKernel$Task" "number" "I" := Or.inr ⟨"FourWayKernel", (List.mem_of_getElem? (i := 268) (by decide +kernel))⟩
theorem fd_Ker_173_Task : gFd R_Ker 173 F_Task 0 := ⟨"FourWayKernel$Task", fw_Ker_173, Or.inl rfl⟩
theorem fw_Task_10 : gFw R_Task 10 "FourWayKernel$Task" "orders" "Ljava/util/ArrayList;" := Or.inl (gtbl_all 269 (by decide +kernel) rfl)
theorem fd_Task_10_Task : gFd R_Task 10 F_Task 1 := ⟨"FourWayKernel$Task", fw_Task_10, Or.inl rfl⟩
theorem fl_Task_10 : Cond.fieldLink R_Task 10 R_Task "orders" "Ljava/util/ArrayList;" ∈ gtbl := (gtbl_all 269 (by decide +kernel) rfl)
theorem fw_Ker_48 : gFw R_Ker 48 "FourWayKernel$Task" "orders" "Ljava/util/ArrayList;" := Or.inr ⟨"FourWayKernel", (List.mem_of_getElem? (i := 270) (by decide +kernel))⟩
theorem fd_Ker_48_Task : gFd R_Ker 48 F_Task 1 := ⟨"FourWayKernel$Task", fw_Ker_48, Or.inl rfl⟩
theorem fw_Ker_133 : gFw R_Ker 133 "FourWayKernel$Task" "done" "I" := Or.inr ⟨"FourWayKernel", (List.mem_of_getElem? (i := 271) (by decide +kernel))⟩
theorem fd_Ker_133_Task : gFd R_Ker 133 F_Task 2 := ⟨"FourWayKernel$Task", fw_Ker_133, Or.inl rfl⟩
theorem fw_Task_20 : gFw R_Task 20 "FourWayKernel$Task" "home" "LFourWayKernel$Processor;" := Or.inl (gtbl_all 272 (by decide +kernel) rfl)
theorem fd_Task_20_Task : gFd R_Task 20 F_Task 3 := ⟨"FourWayKernel$Task", fw_Task_20, Or.inl rfl⟩
theorem fl_Task_20 : Cond.fieldLink R_Task 20 R_Task "home" "LFourWayKernel$Processor;" ∈ gtbl := (gtbl_all 272 (by decide +kernel) rfl)
theorem fw_Ker_51 : gFw R_Ker 51 "FourWayKernel$Task" "home" "LFourWayKernel$Processor;" := Or.inr ⟨"FourWayKernel", (List.mem_of_getElem? (i := 273) (by decide +kernel))⟩
theorem fd_Ker_51_Task : gFd R_Ker 51 F_Task 3 := ⟨"FourWayKernel$Task", fw_Ker_51, Or.inl rfl⟩
theorem fs_Access_3 : Cond.fieldLink R_Access 3 "FourWayKernel$Phase" "LOOK" "LFourWayKernel$Phase;" ∈ gtbl := (gtbl_all 377 (by decide +kernel) rfl)
theorem fw_Access_15 : gFw R_Access 15 "FourWayKernel$Access" "page" "I" := Or.inl (gtbl_all 383 (by decide +kernel) rfl)
theorem fd_Access_15_Access : gFd R_Access 15 F_Access 0 := ⟨"FourWayKernel$Access", fw_Access_15, Or.inl rfl⟩
theorem fl_Access_15 : Cond.fieldLink R_Access 15 R_Access "page" "I" ∈ gtbl := (gtbl_all 383 (by decide +kernel) rfl)
theorem fw_Access_21 : gFw R_Access 21 "FourWayKernel$Access" "value" "I" := Or.inl (gtbl_all 384 (by decide +kernel) rfl)
theorem fd_Access_21_Access : gFd R_Access 21 F_Access 1 := ⟨"FourWayKernel$Access", fw_Access_21, Or.inl rfl⟩
theorem fl_Access_21 : Cond.fieldLink R_Access 21 R_Access "value" "I" ∈ gtbl := (gtbl_all 384 (by decide +kernel) rfl)
theorem fw_Order_15 : gFw R_Order 15 "FourWayKernel$Order" "phase" "LFourWayKernel$Phase;" := Or.inl (gtbl_all 385 (by decide +kernel) rfl)
theorem fd_Order_15_Access : gFd R_Order 15 F_Access 2 := ⟨"FourWayKernel$Order", fw_Order_15, Or.inl rfl⟩
theorem fd_Order_15_Grant : gFd R_Order 15 F_Grant 6 := ⟨"FourWayKernel$Order", fw_Order_15, Or.inl rfl⟩
theorem fd_Order_15_Revoke : gFd R_Order 15 F_Revoke 11 := ⟨"FourWayKernel$Order", fw_Order_15, Or.inl rfl⟩
theorem fd_Order_15_Move : gFd R_Order 15 F_Move 1 := ⟨"FourWayKernel$Order", fw_Order_15, Or.inl rfl⟩
theorem fl_Order_15 : Cond.fieldLink R_Order 15 R_Order "phase" "LFourWayKernel$Phase;" ∈ gtbl := (gtbl_all 385 (by decide +kernel) rfl)
theorem fw_Access_24 : gFw R_Access 24 "FourWayKernel$Access" "phase" "LFourWayKernel$Phase;" := Or.inl (gtbl_all 386 (by decide +kernel) rfl)
theorem fd_Access_24_Access : gFd R_Access 24 F_Access 2 := ⟨"FourWayKernel$Access", fw_Access_24, Or.inr (gtbl_all 387 (by decide +kernel) rfl)⟩
theorem fd_Access_24_Grant : gFd R_Access 24 F_Grant 6 := ⟨"FourWayKernel$Access", fw_Access_24, Or.inr (gtbl_all 387 (by decide +kernel) rfl)⟩
theorem fd_Access_24_Revoke : gFd R_Access 24 F_Revoke 11 := ⟨"FourWayKernel$Access", fw_Access_24, Or.inr (gtbl_all 387 (by decide +kernel) rfl)⟩
theorem fd_Access_24_Move : gFd R_Access 24 F_Move 1 := ⟨"FourWayKernel$Access", fw_Access_24, Or.inr (gtbl_all 387 (by decide +kernel) rfl)⟩
theorem fl_Access_24 : Cond.fieldLink R_Access 24 R_Access "phase" "LFourWayKernel$Phase;" ∈ gtbl := (gtbl_all 386 (by decide +kernel) rfl)
theorem fw_Revoke_52 : gFw R_Revoke 52 "FourWayKernel$Revoke" "phase" "LFourWayKernel$Phase;" := Or.inl (gtbl_all 388 (by decide +kernel) rfl)
theorem fd_Revoke_52_Access : gFd R_Revoke 52 F_Access 2 := ⟨"FourWayKernel$Revoke", fw_Revoke_52, Or.inr (gtbl_all 389 (by decide +kernel) rfl)⟩
theorem fd_Revoke_52_Grant : gFd R_Revoke 52 F_Grant 6 := ⟨"FourWayKernel$Revoke", fw_Revoke_52, Or.inr (gtbl_all 389 (by decide +kernel) rfl)⟩
theorem fd_Revoke_52_Revoke : gFd R_Revoke 52 F_Revoke 11 := ⟨"FourWayKernel$Revoke", fw_Revoke_52, Or.inr (gtbl_all 389 (by decide +kernel) rfl)⟩
theorem fd_Revoke_52_Move : gFd R_Revoke 52 F_Move 1 := ⟨"FourWayKernel$Revoke", fw_Revoke_52, Or.inr (gtbl_all 389 (by decide +kernel) rfl)⟩
theorem fl_Revoke_52 : Cond.fieldLink R_Revoke 52 R_Revoke "phase" "LFourWayKernel$Phase;" ∈ gtbl := (gtbl_all 388 (by decide +kernel) rfl)
theorem fw_Locked_22 : gFw R_Locked 22 "FourWayKernel$Locked" "phase" "LFourWayKernel$Phase;" := Or.inl (gtbl_all 390 (by decide +kernel) rfl)
theorem fd_Locked_22_Access : gFd R_Locked 22 F_Access 2 := ⟨"FourWayKernel$Locked", fw_Locked_22, Or.inr (gtbl_all 391 (by decide +kernel) rfl)⟩
theorem fd_Locked_22_Grant : gFd R_Locked 22 F_Grant 6 := ⟨"FourWayKernel$Locked", fw_Locked_22, Or.inr (gtbl_all 391 (by decide +kernel) rfl)⟩
theorem fd_Locked_22_Revoke : gFd R_Locked 22 F_Revoke 11 := ⟨"FourWayKernel$Locked", fw_Locked_22, Or.inr (gtbl_all 391 (by decide +kernel) rfl)⟩
theorem fd_Locked_22_Move : gFd R_Locked 22 F_Move 1 := ⟨"FourWayKernel$Locked", fw_Locked_22, Or.inr (gtbl_all 391 (by decide +kernel) rfl)⟩
theorem fl_Locked_22 : Cond.fieldLink R_Locked 22 R_Locked "phase" "LFourWayKernel$Phase;" ∈ gtbl := (gtbl_all 390 (by decide +kernel) rfl)
theorem fw_Ker_138 : gFw R_Ker 138 "FourWayKernel$Order" "phase" "LFourWayKernel$Phase;" := Or.inl (gtbl_all 392 (by decide +kernel) rfl)
theorem fd_Ker_138_Access : gFd R_Ker 138 F_Access 2 := ⟨"FourWayKernel$Order", fw_Ker_138, Or.inl rfl⟩
theorem fd_Ker_138_Grant : gFd R_Ker 138 F_Grant 6 := ⟨"FourWayKernel$Order", fw_Ker_138, Or.inl rfl⟩
theorem fd_Ker_138_Revoke : gFd R_Ker 138 F_Revoke 11 := ⟨"FourWayKernel$Order", fw_Ker_138, Or.inl rfl⟩
theorem fd_Ker_138_Move : gFd R_Ker 138 F_Move 1 := ⟨"FourWayKernel$Order", fw_Ker_138, Or.inl rfl⟩
theorem fw_Order_9 : gFw R_Order 9 "FourWayKernel$Order" "result" "I" := Or.inl (gtbl_all 393 (by decide +kernel) rfl)
theorem fd_Order_9_Access : gFd R_Order 9 F_Access 3 := ⟨"FourWayKernel$Order", fw_Order_9, Or.inl rfl⟩
theorem fd_Order_9_Grant : gFd R_Order 9 F_Grant 7 := ⟨"FourWayKernel$Order", fw_Order_9, Or.inl rfl⟩
theorem fd_Order_9_Revoke : gFd R_Order 9 F_Revoke 12 := ⟨"FourWayKernel$Order", fw_Order_9, Or.inl rfl⟩
theorem fd_Order_9_Move : gFd R_Order 9 F_Move 2 := ⟨"FourWayKernel$Order", fw_Order_9, Or.inl rfl⟩
theorem fl_Order_9 : Cond.fieldLink R_Order 9 R_Order "result" "I" ∈ gtbl := (gtbl_all 393 (by decide +kernel) rfl)
theorem fw_Ker_170 : gFw R_Ker 170 "FourWayKernel$Order" "result" "I" := Or.inl (gtbl_all 394 (by decide +kernel) rfl)
theorem fd_Ker_170_Access : gFd R_Ker 170 F_Access 3 := ⟨"FourWayKernel$Order", fw_Ker_170, Or.inl rfl⟩
theorem fd_Ker_170_Grant : gFd R_Ker 170 F_Grant 7 := ⟨"FourWayKernel$Order", fw_Ker_170, Or.inl rfl⟩
theorem fd_Ker_170_Revoke : gFd R_Ker 170 F_Revoke 12 := ⟨"FourWayKernel$Order", fw_Ker_170, Or.inl rfl⟩
theorem fd_Ker_170_Move : gFd R_Ker 170 F_Move 2 := ⟨"FourWayKernel$Order", fw_Ker_170, Or.inl rfl⟩
theorem fs_Locked_1 : Cond.fieldLink R_Locked 1 "FourWayKernel$Phase" "TICKET" "LFourWayKernel$Phase;" ∈ gtbl := (gtbl_all 425 (by decide +kernel) rfl)
theorem fw_Grant_9 : gFw R_Grant 9 "FourWayKernel$Grant" "writable" "Z" := Or.inl (gtbl_all 428 (by decide +kernel) rfl)
theorem fd_Grant_9_Grant : gFd R_Grant 9 F_Grant 0 := ⟨"FourWayKernel$Grant", fw_Grant_9, Or.inl rfl⟩
theorem fl_Grant_9 : Cond.fieldLink R_Grant 9 R_Grant "writable" "Z" ∈ gtbl := (gtbl_all 428 (by decide +kernel) rfl)
theorem fw_Locked_13 : gFw R_Locked 13 "FourWayKernel$Locked" "from" "I" := Or.inl (gtbl_all 429 (by decide +kernel) rfl)
theorem fd_Locked_13_Grant : gFd R_Locked 13 F_Grant 1 := ⟨"FourWayKernel$Locked", fw_Locked_13, Or.inl rfl⟩
theorem fd_Locked_13_Revoke : gFd R_Locked 13 F_Revoke 6 := ⟨"FourWayKernel$Locked", fw_Locked_13, Or.inl rfl⟩
theorem fl_Locked_13 : Cond.fieldLink R_Locked 13 R_Locked "from" "I" ∈ gtbl := (gtbl_all 429 (by decide +kernel) rfl)
theorem fw_Grant_44 : gFw R_Grant 44 "FourWayKernel$Grant" "from" "I" := Or.inl (gtbl_all 430 (by decide +kernel) rfl)
theorem fd_Grant_44_Grant : gFd R_Grant 44 F_Grant 1 := ⟨"FourWayKernel$Grant", fw_Grant_44, Or.inr (gtbl_all 431 (by decide +kernel) rfl)⟩
theorem fd_Grant_44_Revoke : gFd R_Grant 44 F_Revoke 6 := ⟨"FourWayKernel$Grant", fw_Grant_44, Or.inr (gtbl_all 431 (by decide +kernel) rfl)⟩
theorem fl_Grant_44 : Cond.fieldLink R_Grant 44 R_Grant "from" "I" ∈ gtbl := (gtbl_all 430 (by decide +kernel) rfl)
theorem fw_Revoke_87 : gFw R_Revoke 87 "FourWayKernel$Revoke" "from" "I" := Or.inl (gtbl_all 432 (by decide +kernel) rfl)
theorem fd_Revoke_87_Grant : gFd R_Revoke 87 F_Grant 1 := ⟨"FourWayKernel$Revoke", fw_Revoke_87, Or.inr (gtbl_all 433 (by decide +kernel) rfl)⟩
theorem fd_Revoke_87_Revoke : gFd R_Revoke 87 F_Revoke 6 := ⟨"FourWayKernel$Revoke", fw_Revoke_87, Or.inr (gtbl_all 433 (by decide +kernel) rfl)⟩
theorem fl_Revoke_87 : Cond.fieldLink R_Revoke 87 R_Revoke "from" "I" ∈ gtbl := (gtbl_all 432 (by decide +kernel) rfl)
theorem fw_Locked_19 : gFw R_Locked 19 "FourWayKernel$Locked" "n" "I" := Or.inl (gtbl_all 434 (by decide +kernel) rfl)
theorem fd_Locked_19_Grant : gFd R_Locked 19 F_Grant 2 := ⟨"FourWayKernel$Locked", fw_Locked_19, Or.inl rfl⟩
theorem fd_Locked_19_Revoke : gFd R_Locked 19 F_Revoke 7 := ⟨"FourWayKernel$Locked", fw_Locked_19, Or.inl rfl⟩
theorem fl_Locked_19 : Cond.fieldLink R_Locked 19 R_Locked "n" "I" ∈ gtbl := (gtbl_all 434 (by decide +kernel) rfl)
theorem fw_Grant_41 : gFw R_Grant 41 "FourWayKernel$Grant" "n" "I" := Or.inl (gtbl_all 435 (by decide +kernel) rfl)
theorem fd_Grant_41_Grant : gFd R_Grant 41 F_Grant 2 := ⟨"FourWayKernel$Grant", fw_Grant_41, Or.inr (gtbl_all 436 (by decide +kernel) rfl)⟩
theorem fd_Grant_41_Revoke : gFd R_Grant 41 F_Revoke 7 := ⟨"FourWayKernel$Grant", fw_Grant_41, Or.inr (gtbl_all 436 (by decide +kernel) rfl)⟩
theorem fl_Grant_41 : Cond.fieldLink R_Grant 41 R_Grant "n" "I" ∈ gtbl := (gtbl_all 435 (by decide +kernel) rfl)
theorem fw_Revoke_90 : gFw R_Revoke 90 "FourWayKernel$Revoke" "n" "I" := Or.inl (gtbl_all 437 (by decide +kernel) rfl)
theorem fd_Revoke_90_Grant : gFd R_Revoke 90 F_Grant 2 := ⟨"FourWayKernel$Revoke", fw_Revoke_90, Or.inr (gtbl_all 438 (by decide +kernel) rfl)⟩
theorem fd_Revoke_90_Revoke : gFd R_Revoke 90 F_Revoke 7 := ⟨"FourWayKernel$Revoke", fw_Revoke_90, Or.inr (gtbl_all 438 (by decide +kernel) rfl)⟩
theorem fl_Revoke_90 : Cond.fieldLink R_Revoke 90 R_Revoke "n" "I" ∈ gtbl := (gtbl_all 437 (by decide +kernel) rfl)
theorem fw_Revoke_25 : gFw R_Revoke 25 "FourWayKernel$Revoke" "count" "I" := Or.inl (gtbl_all 439 (by decide +kernel) rfl)
theorem fd_Revoke_25_Grant : gFd R_Revoke 25 F_Grant 3 := ⟨"FourWayKernel$Revoke", fw_Revoke_25, Or.inr (gtbl_all 440 (by decide +kernel) rfl)⟩
theorem fd_Revoke_25_Revoke : gFd R_Revoke 25 F_Revoke 8 := ⟨"FourWayKernel$Revoke", fw_Revoke_25, Or.inr (gtbl_all 440 (by decide +kernel) rfl)⟩
theorem fl_Revoke_25 : Cond.fieldLink R_Revoke 25 R_Revoke "count" "I" ∈ gtbl := (gtbl_all 439 (by decide +kernel) rfl)
theorem fw_Grant_51 : gFw R_Grant 51 "FourWayKernel$Grant" "count" "I" := Or.inl (gtbl_all 441 (by decide +kernel) rfl)
theorem fd_Grant_51_Grant : gFd R_Grant 51 F_Grant 3 := ⟨"FourWayKernel$Grant", fw_Grant_51, Or.inr (gtbl_all 442 (by decide +kernel) rfl)⟩
theorem fd_Grant_51_Revoke : gFd R_Grant 51 F_Revoke 8 := ⟨"FourWayKernel$Grant", fw_Grant_51, Or.inr (gtbl_all 442 (by decide +kernel) rfl)⟩
theorem fl_Grant_51 : Cond.fieldLink R_Grant 51 R_Grant "count" "I" ∈ gtbl := (gtbl_all 441 (by decide +kernel) rfl)
theorem fw_Locked_58 : gFw R_Locked 58 "FourWayKernel$Locked" "count" "I" := Or.inl (gtbl_all 443 (by decide +kernel) rfl)
theorem fd_Locked_58_Grant : gFd R_Locked 58 F_Grant 3 := ⟨"FourWayKernel$Locked", fw_Locked_58, Or.inl rfl⟩
theorem fd_Locked_58_Revoke : gFd R_Locked 58 F_Revoke 8 := ⟨"FourWayKernel$Locked", fw_Locked_58, Or.inl rfl⟩
theorem fl_Locked_58 : Cond.fieldLink R_Locked 58 R_Locked "count" "I" ∈ gtbl := (gtbl_all 443 (by decide +kernel) rfl)
theorem fw_Locked_51 : gFw R_Locked 51 "FourWayKernel$Locked" "at" "I" := Or.inl (gtbl_all 444 (by decide +kernel) rfl)
theorem fd_Locked_51_Grant : gFd R_Locked 51 F_Grant 4 := ⟨"FourWayKernel$Locked", fw_Locked_51, Or.inl rfl⟩
theorem fd_Locked_51_Revoke : gFd R_Locked 51 F_Revoke 9 := ⟨"FourWayKernel$Locked", fw_Locked_51, Or.inl rfl⟩
theorem fl_Locked_51 : Cond.fieldLink R_Locked 51 R_Locked "at" "I" ∈ gtbl := (gtbl_all 444 (by decide +kernel) rfl)
theorem fw_Locked_34 : gFw R_Locked 34 "FourWayKernel$Locked" "ticket" "I" := Or.inl (gtbl_all 445 (by decide +kernel) rfl)
theorem fd_Locked_34_Grant : gFd R_Locked 34 F_Grant 5 := ⟨"FourWayKernel$Locked", fw_Locked_34, Or.inl rfl⟩
theorem fd_Locked_34_Revoke : gFd R_Locked 34 F_Revoke 10 := ⟨"FourWayKernel$Locked", fw_Locked_34, Or.inl rfl⟩
theorem fl_Locked_34 : Cond.fieldLink R_Locked 34 R_Locked "ticket" "I" ∈ gtbl := (gtbl_all 445 (by decide +kernel) rfl)
theorem fw_Revoke_15 : gFw R_Revoke 15 "FourWayKernel$Revoke" "unmaps" "Z" := Or.inl (gtbl_all 471 (by decide +kernel) rfl)
theorem fd_Revoke_15_Revoke : gFd R_Revoke 15 F_Revoke 0 := ⟨"FourWayKernel$Revoke", fw_Revoke_15, Or.inl rfl⟩
theorem fl_Revoke_15 : Cond.fieldLink R_Revoke 15 R_Revoke "unmaps" "Z" ∈ gtbl := (gtbl_all 471 (by decide +kernel) rfl)
theorem fw_Revoke_9 : gFw R_Revoke 9 "FourWayKernel$Revoke" "kept" "[I" := Or.inl (gtbl_all 472 (by decide +kernel) rfl)
theorem fd_Revoke_9_Revoke : gFd R_Revoke 9 F_Revoke 1 := ⟨"FourWayKernel$Revoke", fw_Revoke_9, Or.inl rfl⟩
theorem fl_Revoke_9 : Cond.fieldLink R_Revoke 9 R_Revoke "kept" "[I" ∈ gtbl := (gtbl_all 472 (by decide +kernel) rfl)
theorem fw_Revoke_45 : gFw R_Revoke 45 "FourWayKernel$Revoke" "keeps" "I" := Or.inl (gtbl_all 473 (by decide +kernel) rfl)
theorem fd_Revoke_45_Revoke : gFd R_Revoke 45 F_Revoke 2 := ⟨"FourWayKernel$Revoke", fw_Revoke_45, Or.inl rfl⟩
theorem fl_Revoke_45 : Cond.fieldLink R_Revoke 45 R_Revoke "keeps" "I" ∈ gtbl := (gtbl_all 473 (by decide +kernel) rfl)
theorem fw_Revoke_113 : gFw R_Revoke 113 "FourWayKernel$Revoke" "released" "I" := Or.inl (gtbl_all 474 (by decide +kernel) rfl)
theorem fd_Revoke_113_Revoke : gFd R_Revoke 113 F_Revoke 3 := ⟨"FourWayKernel$Revoke", fw_Revoke_113, Or.inl rfl⟩
theorem fl_Revoke_113 : Cond.fieldLink R_Revoke 113 R_Revoke "released" "I" ∈ gtbl := (gtbl_all 474 (by decide +kernel) rfl)
theorem fw_Revoke_63 : gFw R_Revoke 63 "FourWayKernel$Revoke" "sent" "I" := Or.inl (gtbl_all 475 (by decide +kernel) rfl)
theorem fd_Revoke_63_Revoke : gFd R_Revoke 63 F_Revoke 4 := ⟨"FourWayKernel$Revoke", fw_Revoke_63, Or.inl rfl⟩
theorem fl_Revoke_63 : Cond.fieldLink R_Revoke 63 R_Revoke "sent" "I" ∈ gtbl := (gtbl_all 475 (by decide +kernel) rfl)
theorem fw_Revoke_77 : gFw R_Revoke 77 "FourWayKernel$Revoke" "owed" "I" := Or.inl (gtbl_all 476 (by decide +kernel) rfl)
theorem fd_Revoke_77_Revoke : gFd R_Revoke 77 F_Revoke 5 := ⟨"FourWayKernel$Revoke", fw_Revoke_77, Or.inl rfl⟩
theorem fl_Revoke_77 : Cond.fieldLink R_Revoke 77 R_Revoke "owed" "I" ∈ gtbl := (gtbl_all 476 (by decide +kernel) rfl)
theorem fw_Ker_122 : gFw R_Ker 122 "FourWayKernel$Revoke" "owed" "I" := Or.inr ⟨"FourWayKernel", (List.mem_of_getElem? (i := 477) (by decide +kernel))⟩
theorem fd_Ker_122_Revoke : gFd R_Ker 122 F_Revoke 5 := ⟨"FourWayKernel$Revoke", fw_Ker_122, Or.inl rfl⟩
theorem fs_Move_1 : Cond.fieldLink R_Move 1 "FourWayKernel$Phase" "MOVE" "LFourWayKernel$Phase;" ∈ gtbl := (gtbl_all 511 (by decide +kernel) rfl)
theorem fw_Move_13 : gFw R_Move 13 "FourWayKernel$Move" "to" "I" := Or.inl (gtbl_all 514 (by decide +kernel) rfl)
theorem fd_Move_13_Move : gFd R_Move 13 F_Move 0 := ⟨"FourWayKernel$Move", fw_Move_13, Or.inl rfl⟩
theorem fl_Move_13 : Cond.fieldLink R_Move 13 R_Move "to" "I" ∈ gtbl := (gtbl_all 514 (by decide +kernel) rfl)
theorem fw_Ker_163 : gFw R_Ker 163 "FourWayKernel$Move" "to" "I" := Or.inr ⟨"FourWayKernel", (List.mem_of_getElem? (i := 515) (by decide +kernel))⟩
theorem fd_Ker_163_Move : gFd R_Ker 163 F_Move 0 := ⟨"FourWayKernel$Move", fw_Ker_163, Or.inl rfl⟩
theorem fs_Access_62 : Cond.fieldLink R_Access 62 "FourWayKernel$Phase" "TOP" "LFourWayKernel$Phase;" ∈ gtbl := (gtbl_all 580 (by decide +kernel) rfl)
theorem fs_Access_51 : Cond.fieldLink R_Access 51 "FourWayKernel$Phase" "LEAF" "LFourWayKernel$Phase;" ∈ gtbl := (gtbl_all 594 (by decide +kernel) rfl)
theorem fw_Translation_7 : gFw R_Translation 7 "FourWayKernel$Translation" "page" "I" := Or.inl (gtbl_all 614 (by decide +kernel) rfl)
theorem fd_Translation_7_Translation : gFd R_Translation 7 F_Translation 0 := ⟨"FourWayKernel$Translation", fw_Translation_7, Or.inl rfl⟩
theorem fl_Translation_7 : Cond.fieldLink R_Translation 7 R_Translation "page" "I" ∈ gtbl := (gtbl_all 614 (by decide +kernel) rfl)
theorem fw_Processor_33 : gFw R_Processor 33 "FourWayKernel$Translation" "page" "I" := Or.inr ⟨"FourWayKernel", (List.mem_of_getElem? (i := 615) (by decide +kernel))⟩
theorem fd_Processor_33_Translation : gFd R_Processor 33 F_Translation 0 := ⟨"FourWayKernel$Translation", fw_Processor_33, Or.inl rfl⟩
theorem fw_Translation_13 : gFw R_Translation 13 "FourWayKernel$Translation" "frame" "I" := Or.inl (gtbl_all 616 (by decide +kernel) rfl)
theorem fd_Translation_13_Translation : gFd R_Translation 13 F_Translation 1 := ⟨"FourWayKernel$Translation", fw_Translation_13, Or.inl rfl⟩
theorem fl_Translation_13 : Cond.fieldLink R_Translation 13 R_Translation "frame" "I" ∈ gtbl := (gtbl_all 616 (by decide +kernel) rfl)
theorem fw_Access_69 : gFw R_Access 69 "FourWayKernel$Translation" "frame" "I" := Or.inr ⟨"FourWayKernel", (List.mem_of_getElem? (i := 617) (by decide +kernel))⟩
theorem fd_Access_69_Translation : gFd R_Access 69 F_Translation 1 := ⟨"FourWayKernel$Translation", fw_Access_69, Or.inl rfl⟩
theorem fw_Translation_16 : gFw R_Translation 16 "FourWayKernel$Translation" "writable" "Z" := Or.inl (gtbl_all 618 (by decide +kernel) rfl)
theorem fd_Translation_16_Translation : gFd R_Translation 16 F_Translation 2 := ⟨"FourWayKernel$Translation", fw_Translation_16, Or.inl rfl⟩
theorem fl_Translation_16 : Cond.fieldLink R_Translation 16 R_Translation "writable" "Z" ∈ gtbl := (gtbl_all 618 (by decide +kernel) rfl)
theorem fw_Access_74 : gFw R_Access 74 "FourWayKernel$Translation" "writable" "Z" := Or.inr ⟨"FourWayKernel", (List.mem_of_getElem? (i := 619) (by decide +kernel))⟩
theorem fd_Access_74_Translation : gFd R_Access 74 F_Translation 2 := ⟨"FourWayKernel$Translation", fw_Access_74, Or.inl rfl⟩
theorem fw_Processor_38 : gFw R_Processor 38 "FourWayKernel$Translation" "later" "LFourWayKernel$Translation;" := Or.inr ⟨"FourWayKernel", (List.mem_of_getElem? (i := 620) (by decide +kernel))⟩
theorem fd_Processor_38_Translation : gFd R_Processor 38 F_Translation 3 := ⟨"FourWayKernel$Translation", fw_Processor_38, Or.inl rfl⟩
theorem fs_Locked_37 : Cond.fieldLink R_Locked 37 "FourWayKernel$Phase" "WAIT" "LFourWayKernel$Phase;" ∈ gtbl := (gtbl_all 638 (by decide +kernel) rfl)
theorem fs_Grant_15 : Cond.fieldLink R_Grant 15 "FourWayKernel$Phase" "CHECK" "LFourWayKernel$Phase;" ∈ gtbl := (gtbl_all 650 (by decide +kernel) rfl)
theorem fs_Revoke_19 : Cond.fieldLink R_Revoke 19 "FourWayKernel$Phase" "CHANGE" "LFourWayKernel$Phase;" ∈ gtbl := (gtbl_all 655 (by decide +kernel) rfl)
theorem fw_Group_9 : gFw R_Group 9 "FourWayKernel$Group" "frame" "[I" := Or.inl (gtbl_all 678 (by decide +kernel) rfl)
theorem fd_Group_9_Group : gFd R_Group 9 F_Group 0 := ⟨"FourWayKernel$Group", fw_Group_9, Or.inl rfl⟩
theorem fl_Group_9 : Cond.fieldLink R_Group 9 R_Group "frame" "[I" ∈ gtbl := (gtbl_all 678 (by decide +kernel) rfl)
theorem fw_Machine_47 : gFw R_Machine 47 "FourWayKernel$Group" "frame" "[I" := Or.inr ⟨"FourWayKernel", (List.mem_of_getElem? (i := 679) (by decide +kernel))⟩
theorem fd_Machine_47_Group : gFd R_Machine 47 F_Group 0 := ⟨"FourWayKernel$Group", fw_Machine_47, Or.inl rfl⟩
theorem fw_Group_15 : gFw R_Group 15 "FourWayKernel$Group" "writable" "[Z" := Or.inl (gtbl_all 680 (by decide +kernel) rfl)
theorem fd_Group_15_Group : gFd R_Group 15 F_Group 1 := ⟨"FourWayKernel$Group", fw_Group_15, Or.inl rfl⟩
theorem fl_Group_15 : Cond.fieldLink R_Group 15 R_Group "writable" "[Z" ∈ gtbl := (gtbl_all 680 (by decide +kernel) rfl)
theorem fw_Machine_50 : gFw R_Machine 50 "FourWayKernel$Group" "writable" "[Z" := Or.inr ⟨"FourWayKernel", (List.mem_of_getElem? (i := 681) (by decide +kernel))⟩
theorem fd_Machine_50_Group : gFd R_Machine 50 F_Group 1 := ⟨"FourWayKernel$Group", fw_Machine_50, Or.inl rfl⟩
theorem fs_Grant_21 : Cond.fieldLink R_Grant 21 "FourWayKernel$Phase" "UNLOCK" "LFourWayKernel$Phase;" ∈ gtbl := (gtbl_all 700 (by decide +kernel) rfl)
theorem fs_Revoke_29 : Cond.fieldLink R_Revoke 29 "FourWayKernel$Phase" "SEND" "LFourWayKernel$Phase;" ∈ gtbl := (gtbl_all 705 (by decide +kernel) rfl)
theorem fs_Revoke_32 : Cond.fieldLink R_Revoke 32 "FourWayKernel$Phase" "UNLOCK" "LFourWayKernel$Phase;" ∈ gtbl := (gtbl_all 707 (by decide +kernel) rfl)
theorem fs_Locked_64 : Cond.fieldLink R_Locked 64 "FourWayKernel$Phase" "CHANGE" "LFourWayKernel$Phase;" ∈ gtbl := (gtbl_all 708 (by decide +kernel) rfl)
theorem fs_Grant_54 : Cond.fieldLink R_Grant 54 "FourWayKernel$Phase" "CHANGE" "LFourWayKernel$Phase;" ∈ gtbl := (gtbl_all 720 (by decide +kernel) rfl)
theorem fw_Request_7 : gFw R_Request 7 "FourWayKernel$Request" "from" "I" := Or.inl (gtbl_all 742 (by decide +kernel) rfl)
theorem fd_Request_7_Request : gFd R_Request 7 F_Request 0 := ⟨"FourWayKernel$Request", fw_Request_7, Or.inl rfl⟩
theorem fl_Request_7 : Cond.fieldLink R_Request 7 R_Request "from" "I" ∈ gtbl := (gtbl_all 742 (by decide +kernel) rfl)
theorem fw_Request_13 : gFw R_Request 13 "FourWayKernel$Request" "n" "I" := Or.inl (gtbl_all 743 (by decide +kernel) rfl)
theorem fd_Request_13_Request : gFd R_Request 13 F_Request 1 := ⟨"FourWayKernel$Request", fw_Request_13, Or.inl rfl⟩
theorem fl_Request_13 : Cond.fieldLink R_Request 13 R_Request "n" "I" ∈ gtbl := (gtbl_all 743 (by decide +kernel) rfl)
theorem fw_Request_16 : gFw R_Request 16 "FourWayKernel$Request" "sender" "LFourWayKernel$Revoke;" := Or.inl (gtbl_all 744 (by decide +kernel) rfl)
theorem fd_Request_16_Request : gFd R_Request 16 F_Request 2 := ⟨"FourWayKernel$Request", fw_Request_16, Or.inl rfl⟩
theorem fl_Request_16 : Cond.fieldLink R_Request 16 R_Request "sender" "LFourWayKernel$Revoke;" ∈ gtbl := (gtbl_all 744 (by decide +kernel) rfl)
theorem fs_Revoke_70 : Cond.fieldLink R_Revoke 70 "FourWayKernel$Phase" "AWAIT" "LFourWayKernel$Phase;" ∈ gtbl := (gtbl_all 753 (by decide +kernel) rfl)
theorem fs_Revoke_80 : Cond.fieldLink R_Revoke 80 "FourWayKernel$Phase" "RELEASE" "LFourWayKernel$Phase;" ∈ gtbl := (gtbl_all 758 (by decide +kernel) rfl)
theorem fs_Phase_59 : Cond.fieldLink R_Phase 59 "FourWayKernel$Phase" "code" "I" ∈ gtbl := (gtbl_all 1142 (by decide +kernel) rfl)
theorem fs_Enum_7 : Cond.fieldLink R_Enum 7 "java/lang/Enum" "ordinal" "I" ∈ gtbl := (gtbl_all 1143 (by decide +kernel) rfl)
theorem fl_Mod_106 : Cond.fieldLink R_Mod 106 R_Mod "threads" "I" ∈ gtbl := (gtbl_all 842 (by decide +kernel) rfl)
theorem fd_Mod_106_Mod : gFd R_Mod 106 F_Mod 0 := ⟨R_Mod, Or.inl fl_Mod_106, Or.inl rfl⟩
theorem fl_Mod_7 : Cond.fieldLink R_Mod 7 R_Mod "count" "[I" ∈ gtbl := (gtbl_all 843 (by decide +kernel) rfl)
theorem fd_Mod_7_Mod : gFd R_Mod 7 F_Mod 1 := ⟨R_Mod, Or.inl fl_Mod_7, Or.inl rfl⟩
theorem fl_Mod_13 : Cond.fieldLink R_Mod 13 R_Mod "done" "[I" ∈ gtbl := (gtbl_all 844 (by decide +kernel) rfl)
theorem fd_Mod_13_Mod : gFd R_Mod 13 F_Mod 2 := ⟨R_Mod, Or.inl fl_Mod_13, Or.inl rfl⟩
theorem fl_Mod_16 : Cond.fieldLink R_Mod 16 R_Mod "kind" "[I" ∈ gtbl := (gtbl_all 845 (by decide +kernel) rfl)
theorem fd_Mod_16_Mod : gFd R_Mod 16 F_Mod 3 := ⟨R_Mod, Or.inl fl_Mod_16, Or.inl rfl⟩
theorem fl_Mod_19 : Cond.fieldLink R_Mod 19 R_Mod "first" "[I" ∈ gtbl := (gtbl_all 846 (by decide +kernel) rfl)
theorem fd_Mod_19_Mod : gFd R_Mod 19 F_Mod 4 := ⟨R_Mod, Or.inl fl_Mod_19, Or.inl rfl⟩
theorem fl_Mod_22 : Cond.fieldLink R_Mod 22 R_Mod "many" "[I" ∈ gtbl := (gtbl_all 847 (by decide +kernel) rfl)
theorem fd_Mod_22_Mod : gFd R_Mod 22 F_Mod 5 := ⟨R_Mod, Or.inl fl_Mod_22, Or.inl rfl⟩
theorem fl_Mod_25 : Cond.fieldLink R_Mod 25 R_Mod "value" "[I" ∈ gtbl := (gtbl_all 848 (by decide +kernel) rfl)
theorem fd_Mod_25_Mod : gFd R_Mod 25 F_Mod 6 := ⟨R_Mod, Or.inl fl_Mod_25, Or.inl rfl⟩
theorem fl_Mod_28 : Cond.fieldLink R_Mod 28 R_Mod "outcome" "[I" ∈ gtbl := (gtbl_all 849 (by decide +kernel) rfl)
theorem fd_Mod_28_Mod : gFd R_Mod 28 F_Mod 7 := ⟨R_Mod, Or.inl fl_Mod_28, Or.inl rfl⟩
theorem fl_Mod_31 : Cond.fieldLink R_Mod 31 R_Mod "where" "[I" ∈ gtbl := (gtbl_all 850 (by decide +kernel) rfl)
theorem fd_Mod_31_Mod : gFd R_Mod 31 F_Mod 8 := ⟨R_Mod, Or.inl fl_Mod_31, Or.inl rfl⟩
theorem fl_Mod_34 : Cond.fieldLink R_Mod 34 R_Mod "how" "[I" ∈ gtbl := (gtbl_all 851 (by decide +kernel) rfl)
theorem fd_Mod_34_Mod : gFd R_Mod 34 F_Mod 9 := ⟨R_Mod, Or.inl fl_Mod_34, Or.inl rfl⟩
theorem fl_Mod_37 : Cond.fieldLink R_Mod 37 R_Mod "since" "[I" ∈ gtbl := (gtbl_all 852 (by decide +kernel) rfl)
theorem fd_Mod_37_Mod : gFd R_Mod 37 F_Mod 10 := ⟨R_Mod, Or.inl fl_Mod_37, Or.inl rfl⟩
theorem fl_Mod_98 : Cond.fieldLink R_Mod 98 R_Mod "clock" "I" ∈ gtbl := (gtbl_all 853 (by decide +kernel) rfl)
theorem fd_Mod_98_Mod : gFd R_Mod 98 F_Mod 11 := ⟨R_Mod, Or.inl fl_Mod_98, Or.inl rfl⟩
theorem fl_Mod_40 : Cond.fieldLink R_Mod 40 R_Mod "phase" "[I" ∈ gtbl := (gtbl_all 854 (by decide +kernel) rfl)
theorem fd_Mod_40_Mod : gFd R_Mod 40 F_Mod 12 := ⟨R_Mod, Or.inl fl_Mod_40, Or.inl rfl⟩
theorem fl_Mod_43 : Cond.fieldLink R_Mod 43 R_Mod "ticket" "[I" ∈ gtbl := (gtbl_all 855 (by decide +kernel) rfl)
theorem fd_Mod_43_Mod : gFd R_Mod 43 F_Mod 13 := ⟨R_Mod, Or.inl fl_Mod_43, Or.inl rfl⟩
theorem fl_Mod_46 : Cond.fieldLink R_Mod 46 R_Mod "progress" "[I" ∈ gtbl := (gtbl_all 856 (by decide +kernel) rfl)
theorem fd_Mod_46_Mod : gFd R_Mod 46 F_Mod 14 := ⟨R_Mod, Or.inl fl_Mod_46, Or.inl rfl⟩
theorem fl_Mod_49 : Cond.fieldLink R_Mod 49 R_Mod "owed" "[I" ∈ gtbl := (gtbl_all 857 (by decide +kernel) rfl)
theorem fd_Mod_49_Mod : gFd R_Mod 49 F_Mod 15 := ⟨R_Mod, Or.inl fl_Mod_49, Or.inl rfl⟩
theorem fl_Mod_52 : Cond.fieldLink R_Mod 52 R_Mod "hits" "[I" ∈ gtbl := (gtbl_all 858 (by decide +kernel) rfl)
theorem fd_Mod_52_Mod : gFd R_Mod 52 F_Mod 16 := ⟨R_Mod, Or.inl fl_Mod_52, Or.inl rfl⟩
theorem fl_Mod_55 : Cond.fieldLink R_Mod 55 R_Mod "refused" "[Z" ∈ gtbl := (gtbl_all 859 (by decide +kernel) rfl)
theorem fd_Mod_55_Mod : gFd R_Mod 55 F_Mod 17 := ⟨R_Mod, Or.inl fl_Mod_55, Or.inl rfl⟩
theorem fl_Mod_59 : Cond.fieldLink R_Mod 59 R_Mod "kept" "[I" ∈ gtbl := (gtbl_all 860 (by decide +kernel) rfl)
theorem fd_Mod_59_Mod : gFd R_Mod 59 F_Mod 18 := ⟨R_Mod, Or.inl fl_Mod_59, Or.inl rfl⟩
theorem fl_Mod_62 : Cond.fieldLink R_Mod 62 R_Mod "keeps" "[I" ∈ gtbl := (gtbl_all 861 (by decide +kernel) rfl)
theorem fd_Mod_62_Mod : gFd R_Mod 62 F_Mod 19 := ⟨R_Mod, Or.inl fl_Mod_62, Or.inl rfl⟩
theorem fl_Mod_177 : Cond.fieldLink R_Mod 177 R_Mod "next" "I" ∈ gtbl := (gtbl_all 862 (by decide +kernel) rfl)
theorem fd_Mod_177_Mod : gFd R_Mod 177 F_Mod 20 := ⟨R_Mod, Or.inl fl_Mod_177, Or.inl rfl⟩
theorem fl_Mod_180 : Cond.fieldLink R_Mod 180 R_Mod "serving" "I" ∈ gtbl := (gtbl_all 863 (by decide +kernel) rfl)
theorem fd_Mod_180_Mod : gFd R_Mod 180 F_Mod 21 := ⟨R_Mod, Or.inl fl_Mod_180, Or.inl rfl⟩
theorem fl_Mod_65 : Cond.fieldLink R_Mod 65 R_Mod "frameOf" "[I" ∈ gtbl := (gtbl_all 864 (by decide +kernel) rfl)
theorem fd_Mod_65_Mod : gFd R_Mod 65 F_Mod 22 := ⟨R_Mod, Or.inl fl_Mod_65, Or.inl rfl⟩
theorem fl_Mod_68 : Cond.fieldLink R_Mod 68 R_Mod "writableOf" "[Z" ∈ gtbl := (gtbl_all 865 (by decide +kernel) rfl)
theorem fd_Mod_68_Mod : gFd R_Mod 68 F_Mod 23 := ⟨R_Mod, Or.inl fl_Mod_68, Or.inl rfl⟩
theorem fl_Mod_71 : Cond.fieldLink R_Mod 71 R_Mod "entered" "[Z" ∈ gtbl := (gtbl_all 866 (by decide +kernel) rfl)
theorem fd_Mod_71_Mod : gFd R_Mod 71 F_Mod 24 := ⟨R_Mod, Or.inl fl_Mod_71, Or.inl rfl⟩
theorem fl_Mod_74 : Cond.fieldLink R_Mod 74 R_Mod "word" "[I" ∈ gtbl := (gtbl_all 867 (by decide +kernel) rfl)
theorem fd_Mod_74_Mod : gFd R_Mod 74 F_Mod 25 := ⟨R_Mod, Or.inl fl_Mod_74, Or.inl rfl⟩
theorem fl_Mod_77 : Cond.fieldLink R_Mod 77 R_Mod "known" "[I" ∈ gtbl := (gtbl_all 868 (by decide +kernel) rfl)
theorem fd_Mod_77_Mod : gFd R_Mod 77 F_Mod 26 := ⟨R_Mod, Or.inl fl_Mod_77, Or.inl rfl⟩
theorem fl_Mod_80 : Cond.fieldLink R_Mod 80 R_Mod "knownFrame" "[I" ∈ gtbl := (gtbl_all 869 (by decide +kernel) rfl)
theorem fd_Mod_80_Mod : gFd R_Mod 80 F_Mod 27 := ⟨R_Mod, Or.inl fl_Mod_80, Or.inl rfl⟩
theorem fl_Mod_83 : Cond.fieldLink R_Mod 83 R_Mod "knownWritable" "[Z" ∈ gtbl := (gtbl_all 870 (by decide +kernel) rfl)
theorem fd_Mod_83_Mod : gFd R_Mod 83 F_Mod 28 := ⟨R_Mod, Or.inl fl_Mod_83, Or.inl rfl⟩
theorem fl_Mod_86 : Cond.fieldLink R_Mod 86 R_Mod "home" "[I" ∈ gtbl := (gtbl_all 871 (by decide +kernel) rfl)
theorem fd_Mod_86_Mod : gFd R_Mod 86 F_Mod 29 := ⟨R_Mod, Or.inl fl_Mod_86, Or.inl rfl⟩
theorem fl_Mod_89 : Cond.fieldLink R_Mod 89 R_Mod "laid" "[I" ∈ gtbl := (gtbl_all 872 (by decide +kernel) rfl)
theorem fd_Mod_89_Mod : gFd R_Mod 89 F_Mod 30 := ⟨R_Mod, Or.inl fl_Mod_89, Or.inl rfl⟩
theorem fl_Mod_92 : Cond.fieldLink R_Mod 92 R_Mod "asked" "[Z" ∈ gtbl := (gtbl_all 873 (by decide +kernel) rfl)
theorem fd_Mod_92_Mod : gFd R_Mod 92 F_Mod 31 := ⟨R_Mod, Or.inl fl_Mod_92, Or.inl rfl⟩
theorem fl_Mod_95 : Cond.fieldLink R_Mod 95 R_Mod "askedBy" "[I" ∈ gtbl := (gtbl_all 874 (by decide +kernel) rfl)
theorem fd_Mod_95_Mod : gFd R_Mod 95 F_Mod 32 := ⟨R_Mod, Or.inl fl_Mod_95, Or.inl rfl⟩
theorem fl_Mod_136 : Cond.fieldLink R_Mod 136 R_Mod "made" "I" ∈ gtbl := (gtbl_all 875 (by decide +kernel) rfl)
theorem fd_Mod_136_Mod : gFd R_Mod 136 F_Mod 33 := ⟨R_Mod, Or.inl fl_Mod_136, Or.inl rfl⟩
